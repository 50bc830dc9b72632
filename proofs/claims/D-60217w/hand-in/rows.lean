section
-- ===== PART A: goes FIRST, ahead of the names: the tables' words, and 'selects' of the private methods out of them =====
/-- a private method of a class that the tables say can be made, by its rows of tables_1 -/
def lw_okq (q : MethodName × Nat) : Prop := (q.1.cls ≠ "java/lang/invoke/MethodHandle" ∧ q.1.cls ≠ "java/lang/invoke/VarHandle") ∧ Cond.instantiable q.1.cls q.2 ∈ tables_1 ∧ Cond.privateMethod q.1 ∈ tables_1 ∧ Cond.instanceMethod q.1 ∈ tables_1
set_option maxRecDepth 100000
theorem lw_t1 {w : Cond} (h : w ∈ tables_1_1) : w ∈ tables_1 := List.mem_append_left _ h
theorem lw_t2 {w : Cond} (h : w ∈ tables_1_2) : w ∈ tables_1 := List.mem_append_right _ h
theorem lw_p0 : lw_okq (⟨"SyntheticChain", "setLive", "(IZI)V"⟩, 14) := ⟨⟨by decide +kernel, by decide +kernel⟩, lw_t1 (List.mem_of_getElem? (i := 4) rfl), lw_t1 (List.mem_of_getElem? (i := 64) rfl), lw_t1 (List.mem_of_getElem? (i := 65) rfl)⟩
theorem lw_p1 : lw_okq (⟨"SyntheticChain", "freeSlot", "()I"⟩, 14) := ⟨⟨by decide +kernel, by decide +kernel⟩, lw_t1 (List.mem_of_getElem? (i := 4) rfl), lw_t1 (List.mem_of_getElem? (i := 91) rfl), lw_t1 (List.mem_of_getElem? (i := 92) rfl)⟩
theorem lw_p2 : lw_okq (⟨"SyntheticChain", "baseFor", "(I)I"⟩, 14) := ⟨⟨by decide +kernel, by decide +kernel⟩, lw_t1 (List.mem_of_getElem? (i := 4) rfl), lw_t1 (List.mem_of_getElem? (i := 95) rfl), lw_t1 (List.mem_of_getElem? (i := 96) rfl)⟩
theorem lw_p3 : lw_okq (⟨"SyntheticChain", "isPoint", "(I)Z"⟩, 14) := ⟨⟨by decide +kernel, by decide +kernel⟩, lw_t1 (List.mem_of_getElem? (i := 4) rfl), lw_t1 (List.mem_of_getElem? (i := 104) rfl), lw_t1 (List.mem_of_getElem? (i := 105) rfl)⟩
theorem lw_p4 : lw_okq (⟨"SyntheticChain", "bring", "(II)I"⟩, 14) := ⟨⟨by decide +kernel, by decide +kernel⟩, lw_t1 (List.mem_of_getElem? (i := 4) rfl), lw_t1 (List.mem_of_getElem? (i := 108) rfl), lw_t1 (List.mem_of_getElem? (i := 109) rfl)⟩
theorem lw_p5 : lw_okq (⟨"SyntheticChain", "isLive", "(II)Z"⟩, 14) := ⟨⟨by decide +kernel, by decide +kernel⟩, lw_t1 (List.mem_of_getElem? (i := 4) rfl), lw_t1 (List.mem_of_getElem? (i := 112) rfl), lw_t1 (List.mem_of_getElem? (i := 113) rfl)⟩
theorem lw_p6 : lw_okq (⟨"SyntheticChain", "holder", "(II)I"⟩, 14) := ⟨⟨by decide +kernel, by decide +kernel⟩, lw_t1 (List.mem_of_getElem? (i := 4) rfl), lw_t1 (List.mem_of_getElem? (i := 116) rfl), lw_t1 (List.mem_of_getElem? (i := 117) rfl)⟩
theorem lw_p7 : lw_okq (⟨"SyntheticChain", "drop", "(I)V"⟩, 14) := ⟨⟨by decide +kernel, by decide +kernel⟩, lw_t1 (List.mem_of_getElem? (i := 4) rfl), lw_t1 (List.mem_of_getElem? (i := 132) rfl), lw_t1 (List.mem_of_getElem? (i := 133) rfl)⟩
theorem lw_p8 : lw_okq (⟨"SyntheticChain", "keepHeads", "(II)V"⟩, 14) := ⟨⟨by decide +kernel, by decide +kernel⟩, lw_t1 (List.mem_of_getElem? (i := 4) rfl), lw_t1 (List.mem_of_getElem? (i := 140) rfl), lw_t1 (List.mem_of_getElem? (i := 141) rfl)⟩
theorem lw_p9 : lw_okq (⟨"SyntheticChain", "differs", "(III)Z"⟩, 14) := ⟨⟨by decide +kernel, by decide +kernel⟩, lw_t1 (List.mem_of_getElem? (i := 4) rfl), lw_t1 (List.mem_of_getElem? (i := 176) rfl), lw_t1 (List.mem_of_getElem? (i := 177) rfl)⟩
theorem lw_p10 : lw_okq (⟨"SyntheticChainModel", "badFile", "(I)Z"⟩, 9) := ⟨⟨by decide +kernel, by decide +kernel⟩, lw_t1 (List.mem_of_getElem? (i := 192) rfl), lw_t1 (List.mem_of_getElem? (i := 230) rfl), lw_t1 (List.mem_of_getElem? (i := 231) rfl)⟩
theorem lw_p11 : lw_okq (⟨"SyntheticChainModel", "badPoint", "(I)Z"⟩, 9) := ⟨⟨by decide +kernel, by decide +kernel⟩, lw_t1 (List.mem_of_getElem? (i := 192) rfl), lw_t2 (List.mem_of_getElem? (i := 18) rfl), lw_t2 (List.mem_of_getElem? (i := 19) rfl)⟩
theorem lw_p12 : lw_okq (⟨"SyntheticChainModel", "changed", "(II)Z"⟩, 9) := ⟨⟨by decide +kernel, by decide +kernel⟩, lw_t1 (List.mem_of_getElem? (i := 192) rfl), lw_t2 (List.mem_of_getElem? (i := 22) rfl), lw_t2 (List.mem_of_getElem? (i := 23) rfl)⟩
theorem lw_p13 : lw_okq (⟨"SyntheticChainModel", "back", "(II)V"⟩, 9) := ⟨⟨by decide +kernel, by decide +kernel⟩, lw_t1 (List.mem_of_getElem? (i := 192) rfl), lw_t2 (List.mem_of_getElem? (i := 26) rfl), lw_t2 (List.mem_of_getElem? (i := 27) rfl)⟩
theorem lw_p14 : lw_okq (⟨"SyntheticChainModel", "takeOut", "(I)V"⟩, 9) := ⟨⟨by decide +kernel, by decide +kernel⟩, lw_t1 (List.mem_of_getElem? (i := 192) rfl), lw_t2 (List.mem_of_getElem? (i := 42) rfl), lw_t2 (List.mem_of_getElem? (i := 43) rfl)⟩
theorem lw_p15 : lw_okq (⟨"SyntheticChainModel", "keep", "(II)V"⟩, 9) := ⟨⟨by decide +kernel, by decide +kernel⟩, lw_t1 (List.mem_of_getElem? (i := 192) rfl), lw_t2 (List.mem_of_getElem? (i := 50) rfl), lw_t2 (List.mem_of_getElem? (i := 51) rfl)⟩
def lw_privs_1 : List (MethodName × Nat) := [(⟨"SyntheticChain", "setLive", "(IZI)V"⟩, 14), (⟨"SyntheticChain", "freeSlot", "()I"⟩, 14), (⟨"SyntheticChain", "baseFor", "(I)I"⟩, 14), (⟨"SyntheticChain", "isPoint", "(I)Z"⟩, 14), (⟨"SyntheticChain", "bring", "(II)I"⟩, 14), (⟨"SyntheticChain", "isLive", "(II)Z"⟩, 14), (⟨"SyntheticChain", "holder", "(II)I"⟩, 14), (⟨"SyntheticChain", "drop", "(I)V"⟩, 14), (⟨"SyntheticChain", "keepHeads", "(II)V"⟩, 14), (⟨"SyntheticChain", "differs", "(III)Z"⟩, 14), (⟨"SyntheticChainModel", "badFile", "(I)Z"⟩, 9), (⟨"SyntheticChainModel", "badPoint", "(I)Z"⟩, 9), (⟨"SyntheticChainModel", "changed", "(II)Z"⟩, 9), (⟨"SyntheticChainModel", "back", "(II)V"⟩, 9), (⟨"SyntheticChainModel", "takeOut", "(I)V"⟩, 9), (⟨"SyntheticChainModel", "keep", "(II)V"⟩, 9)]
theorem lw_r1 : ∀ q ∈ lw_privs_1, lw_okq q := List.forall_mem_cons.mpr ⟨lw_p0, List.forall_mem_cons.mpr ⟨lw_p1, List.forall_mem_cons.mpr ⟨lw_p2, List.forall_mem_cons.mpr ⟨lw_p3, List.forall_mem_cons.mpr ⟨lw_p4, List.forall_mem_cons.mpr ⟨lw_p5, List.forall_mem_cons.mpr ⟨lw_p6, List.forall_mem_cons.mpr ⟨lw_p7, List.forall_mem_cons.mpr ⟨lw_p8, List.forall_mem_cons.mpr ⟨lw_p9, List.forall_mem_cons.mpr ⟨lw_p10, List.forall_mem_cons.mpr ⟨lw_p11, List.forall_mem_cons.mpr ⟨lw_p12, List.forall_mem_cons.mpr ⟨lw_p13, List.forall_mem_cons.mpr ⟨lw_p14, List.forall_mem_cons.mpr ⟨lw_p15, fun _ h => absurd h List.not_mem_nil⟩⟩⟩⟩⟩⟩⟩⟩⟩⟩⟩⟩⟩⟩⟩⟩
theorem lw_p16 : lw_okq (⟨"SyntheticChainModel", "head", "(II)Z"⟩, 9) := ⟨⟨by decide +kernel, by decide +kernel⟩, lw_t1 (List.mem_of_getElem? (i := 192) rfl), lw_t2 (List.mem_of_getElem? (i := 54) rfl), lw_t2 (List.mem_of_getElem? (i := 55) rfl)⟩
theorem lw_p17 : lw_okq (⟨"SyntheticChainModel", "differ", "(III)Z"⟩, 9) := ⟨⟨by decide +kernel, by decide +kernel⟩, lw_t1 (List.mem_of_getElem? (i := 192) rfl), lw_t2 (List.mem_of_getElem? (i := 90) rfl), lw_t2 (List.mem_of_getElem? (i := 91) rfl)⟩
def lw_privs_2 : List (MethodName × Nat) := [(⟨"SyntheticChainModel", "head", "(II)Z"⟩, 9), (⟨"SyntheticChainModel", "differ", "(III)Z"⟩, 9)]
theorem lw_r2 : ∀ q ∈ lw_privs_2, lw_okq q := List.forall_mem_cons.mpr ⟨lw_p16, List.forall_mem_cons.mpr ⟨lw_p17, fun _ h => absurd h List.not_mem_nil⟩⟩
def lw_privs : List (MethodName × Nat) := lw_privs_1 ++ (lw_privs_2)
def lw_tbl : List Cond := k2_sels lw_privs ++ tables_1
theorem lw_privs_ok : ∀ q ∈ lw_privs, lw_okq q := by
  show ∀ q ∈ lw_privs_1 ++ (lw_privs_2), lw_okq q
  exact List.forall_mem_append.mpr ⟨lw_r1, lw_r2⟩
-- ===== ONE list of words for every method: the tables' words that hold all through a run =====
def lw_all : List Cond := lw_tbl.filter goodWord
/-- a word of the tables by its place: claim/WORDS.tsv -/
theorem lw_w {w : Cond} (i : Nat) (h : lw_tbl[i]? = some w) (g : goodWord w = true) : w ∈ lw_all := List.mem_filter.mpr ⟨List.mem_of_getElem? h, g⟩
theorem lw_all_tbl {w : Cond} (h : w ∈ lw_all) : w ∈ lw_tbl := (List.mem_filter.mp h).1
theorem lw_self : GoodIn lw_all lw_all := fun w h => ⟨h, good_of_word (List.mem_filter.mp h).2⟩
/-- a class's field words, by their places -/
theorem lw_in (ws : List Cond) (ps : List Nat) (hp : ws = ps.filterMap (fun i => lw_tbl[i]?)) (hg : ws.all goodWord = true) : ∀ w ∈ ws, w ∈ lw_all := by
  intro w h
  have h1 := List.all_eq_true.mp hg w h
  rw [hp] at h
  obtain ⟨i, -, hi⟩ := List.mem_filterMap.mp h
  exact lw_w i hi h1
/-- the words of a contract for the method y with code b, L locals, answer r -/
abbrev ws_ (y : MethodName) (b : ByteArray) (L : Nat) (r : Option FieldType) : List Cond := Cond.code y b L r :: lw_all
theorem lw_meth {y : MethodName} {b : ByteArray} {L : Nat} {r : Option FieldType} (h : Cond.code y b L r ∈ lw_all) : GoodIn lw_all (ws_ y b L r) := by
  intro w hw
  rcases List.mem_cons.mp hw with e | e
  · rw [e]
    exact lw_self _ h
  · exact lw_self _ e
theorem lw_app {a c : List Cond} (ha : ∀ w ∈ a, w ∈ lw_all) (hc : GoodIn lw_all c) : GoodIn lw_all (a ++ c) := by
  intro w hw
  rcases List.mem_append.mp hw with e | e
  · exact lw_self w (ha w e)
  · exact hc w e
/-- what a call through an object asks: cwV n hts (lw_V ..) -/
theorem lw_V {own : String} {idx : Nat} {C : String} {y : MethodName} {b : ByteArray} {L : Nat} {r : Option FieldType} (h1 : Cond.methodLink own idx y ∈ lw_all) (h2 : Cond.instanceMethod y ∈ lw_all) (h3 : Cond.selects C y y ∈ lw_all) (h4 : Cond.initialized C ∈ lw_all) (h5 : Cond.code y b L r ∈ lw_all) : GoodIn lw_all (wsV own idx C y (ws_ y b L r)) := by
  refine lw_app ?_ (lw_meth h5)
  intro w hw
  simp only [List.mem_cons, List.not_mem_nil, or_false] at hw
  rcases hw with e | e | e | e
  · rw [e]; exact h1
  · rw [e]; exact h2
  · rw [e]; exact h3
  · rw [e]; exact h4
/-- what a static call asks: va_cwS n hts (lw_S ..) -/
theorem lw_S {own : String} {idx : Nat} {y : MethodName} {b : ByteArray} {L : Nat} {r : Option FieldType} (h1 : Cond.methodLink own idx y ∈ lw_all) (h2 : Cond.static y ∈ lw_all) (h3 : Cond.initialized y.cls ∈ lw_all) (h4 : Cond.code y b L r ∈ lw_all) : GoodIn lw_all (va_wsS own idx y (ws_ y b L r)) := by
  refine lw_app ?_ (lw_meth h4)
  intro w hw
  simp only [List.mem_cons, List.not_mem_nil, or_false] at hw
  rcases hw with e | e | e
  · rw [e]; exact h1
  · rw [e]; exact h2
  · rw [e]; exact h3
/-- the words of a contract for a method WITH HANDLERS (hh: its table) -/
abbrev wsW_ (y : MethodName) (b : ByteArray) (L : Nat) (r : Option FieldType) (hh : List (Nat × Nat × Nat × Nat)) : List Cond := Cond.codeWith y b L r hh :: lw_all
theorem lw_methW {y : MethodName} {b : ByteArray} {L : Nat} {r : Option FieldType} {hh : List (Nat × Nat × Nat × Nat)} (h : Cond.codeWith y b L r hh ∈ lw_all) : GoodIn lw_all (wsW_ y b L r hh) := by
  intro w hw
  rcases List.mem_cons.mp hw with e | e
  · rw [e]
    exact lw_self _ h
  · exact lw_self _ e
/-- any list of words by their places (lw_in), good -/
theorem lw_good {ws : List Cond} (h : ∀ w ∈ ws, w ∈ lw_all) : GoodIn lw_all ws := fun w hw => lw_self w (h w hw)
/-- what a call of a method with handlers asks: vx_cwVW n hts (lw_VW ..), vx_cwSW n hts (lw_SW ..) -/
theorem lw_VW {own : String} {idx : Nat} {C : String} {y : MethodName} {b : ByteArray} {L : Nat} {r : Option FieldType} {hh : List (Nat × Nat × Nat × Nat)} (h1 : Cond.methodLink own idx y ∈ lw_all) (h2 : Cond.instanceMethod y ∈ lw_all) (h3 : Cond.selects C y y ∈ lw_all) (h4 : Cond.initialized C ∈ lw_all) (h5 : Cond.codeWith y b L r hh ∈ lw_all) : GoodIn lw_all (wsV own idx C y (wsW_ y b L r hh)) := by
  refine lw_app ?_ (lw_methW h5)
  intro w hw
  simp only [List.mem_cons, List.not_mem_nil, or_false] at hw
  rcases hw with e | e | e | e
  · rw [e]; exact h1
  · rw [e]; exact h2
  · rw [e]; exact h3
  · rw [e]; exact h4
theorem lw_SW {own : String} {idx : Nat} {y : MethodName} {b : ByteArray} {L : Nat} {r : Option FieldType} {hh : List (Nat × Nat × Nat × Nat)} (h1 : Cond.methodLink own idx y ∈ lw_all) (h2 : Cond.static y ∈ lw_all) (h3 : Cond.initialized y.cls ∈ lw_all) (h4 : Cond.codeWith y b L r hh ∈ lw_all) : GoodIn lw_all (va_wsS own idx y (wsW_ y b L r hh)) := by
  refine lw_app ?_ (lw_methW h4)
  intro w hw
  simp only [List.mem_cons, List.not_mem_nil, or_false] at hw
  rcases hw with e | e | e
  · rw [e]; exact h1
  · rw [e]; exact h2
  · rw [e]; exact h3
/-- a word by its place in its run of the tables -/
theorem lw_at {r : List Cond} (hr : ∀ w ∈ r, w ∈ lw_tbl) {w : Cond} (i : Nat) (h : r[i]? = some w) : w ∈ lw_tbl := hr w (List.mem_of_getElem? h)
theorem lw_g {w : Cond} (h : w ∈ lw_tbl) (g : goodWord w = true) : w ∈ lw_all := List.mem_filter.mpr ⟨h, g⟩
theorem lw_ms : ∀ w ∈ k2_sels lw_privs, w ∈ lw_tbl := fun w h => show w ∈ k2_sels lw_privs ++ tables_1 from List.mem_append_left _ h
theorem lw_m1 : ∀ w ∈ tables_1_1, w ∈ lw_tbl := fun w h => show w ∈ k2_sels lw_privs ++ tables_1 from List.mem_append_right (k2_sels lw_privs) (show w ∈ tables_1 from List.mem_append_left _ h)
theorem lw_m2 : ∀ w ∈ tables_1_2, w ∈ lw_tbl := fun w h => show w ∈ k2_sels lw_privs ++ tables_1 from List.mem_append_right (k2_sels lw_privs) (show w ∈ tables_1 from List.mem_append_right _ h)
theorem qs0 : (Cond.selects "SyntheticChain" ⟨"SyntheticChain", "setLive", "(IZI)V"⟩ ⟨"SyntheticChain", "setLive", "(IZI)V"⟩) ∈ lw_all := lw_g (lw_at lw_ms 0 rfl) rfl
theorem qs1 : (Cond.selects "SyntheticChain" ⟨"SyntheticChain", "freeSlot", "()I"⟩ ⟨"SyntheticChain", "freeSlot", "()I"⟩) ∈ lw_all := lw_g (lw_at lw_ms 1 rfl) rfl
theorem qs2 : (Cond.selects "SyntheticChain" ⟨"SyntheticChain", "baseFor", "(I)I"⟩ ⟨"SyntheticChain", "baseFor", "(I)I"⟩) ∈ lw_all := lw_g (lw_at lw_ms 2 rfl) rfl
theorem qs3 : (Cond.selects "SyntheticChain" ⟨"SyntheticChain", "isPoint", "(I)Z"⟩ ⟨"SyntheticChain", "isPoint", "(I)Z"⟩) ∈ lw_all := lw_g (lw_at lw_ms 3 rfl) rfl
theorem qs4 : (Cond.selects "SyntheticChain" ⟨"SyntheticChain", "bring", "(II)I"⟩ ⟨"SyntheticChain", "bring", "(II)I"⟩) ∈ lw_all := lw_g (lw_at lw_ms 4 rfl) rfl
theorem qs5 : (Cond.selects "SyntheticChain" ⟨"SyntheticChain", "isLive", "(II)Z"⟩ ⟨"SyntheticChain", "isLive", "(II)Z"⟩) ∈ lw_all := lw_g (lw_at lw_ms 5 rfl) rfl
theorem qs6 : (Cond.selects "SyntheticChain" ⟨"SyntheticChain", "holder", "(II)I"⟩ ⟨"SyntheticChain", "holder", "(II)I"⟩) ∈ lw_all := lw_g (lw_at lw_ms 6 rfl) rfl
theorem qs7 : (Cond.selects "SyntheticChain" ⟨"SyntheticChain", "drop", "(I)V"⟩ ⟨"SyntheticChain", "drop", "(I)V"⟩) ∈ lw_all := lw_g (lw_at lw_ms 7 rfl) rfl
theorem qs8 : (Cond.selects "SyntheticChain" ⟨"SyntheticChain", "keepHeads", "(II)V"⟩ ⟨"SyntheticChain", "keepHeads", "(II)V"⟩) ∈ lw_all := lw_g (lw_at lw_ms 8 rfl) rfl
theorem qs9 : (Cond.selects "SyntheticChain" ⟨"SyntheticChain", "differs", "(III)Z"⟩ ⟨"SyntheticChain", "differs", "(III)Z"⟩) ∈ lw_all := lw_g (lw_at lw_ms 9 rfl) rfl
theorem qs10 : (Cond.selects "SyntheticChainModel" ⟨"SyntheticChainModel", "badFile", "(I)Z"⟩ ⟨"SyntheticChainModel", "badFile", "(I)Z"⟩) ∈ lw_all := lw_g (lw_at lw_ms 10 rfl) rfl
theorem qs11 : (Cond.selects "SyntheticChainModel" ⟨"SyntheticChainModel", "badPoint", "(I)Z"⟩ ⟨"SyntheticChainModel", "badPoint", "(I)Z"⟩) ∈ lw_all := lw_g (lw_at lw_ms 11 rfl) rfl
theorem qs12 : (Cond.selects "SyntheticChainModel" ⟨"SyntheticChainModel", "changed", "(II)Z"⟩ ⟨"SyntheticChainModel", "changed", "(II)Z"⟩) ∈ lw_all := lw_g (lw_at lw_ms 12 rfl) rfl
theorem qs13 : (Cond.selects "SyntheticChainModel" ⟨"SyntheticChainModel", "back", "(II)V"⟩ ⟨"SyntheticChainModel", "back", "(II)V"⟩) ∈ lw_all := lw_g (lw_at lw_ms 13 rfl) rfl
theorem qs14 : (Cond.selects "SyntheticChainModel" ⟨"SyntheticChainModel", "takeOut", "(I)V"⟩ ⟨"SyntheticChainModel", "takeOut", "(I)V"⟩) ∈ lw_all := lw_g (lw_at lw_ms 14 rfl) rfl
theorem qs15 : (Cond.selects "SyntheticChainModel" ⟨"SyntheticChainModel", "keep", "(II)V"⟩ ⟨"SyntheticChainModel", "keep", "(II)V"⟩) ∈ lw_all := lw_g (lw_at lw_ms 15 rfl) rfl
theorem qs16 : (Cond.selects "SyntheticChainModel" ⟨"SyntheticChainModel", "head", "(II)Z"⟩ ⟨"SyntheticChainModel", "head", "(II)Z"⟩) ∈ lw_all := lw_g (lw_at lw_ms 16 rfl) rfl
theorem qs17 : (Cond.selects "SyntheticChainModel" ⟨"SyntheticChainModel", "differ", "(III)Z"⟩ ⟨"SyntheticChainModel", "differ", "(III)Z"⟩) ∈ lw_all := lw_g (lw_at lw_ms 17 rfl) rfl
end
section
/-! SyntheticChain -/
set_option maxRecDepth 100000
def RX0 : String := "SyntheticChain"
def TX0 : u_T := fun k => match k with
  | 0 => ("SyntheticChain", "liveContent", "[I", true)
  | 1 => ("SyntheticChain", "order", "[I", true)
  | 2 => ("SyntheticChain", "base", "[I", true)
  | 3 => ("SyntheticChain", "entries", "[I", true)
  | 4 => ("SyntheticChain", "present", "[I", true)
  | 5 => ("SyntheticChain", "contents", "[I", true)
  | 6 => ("SyntheticChain", "days", "[I", true)
  | 7 => ("SyntheticChain", "pins", "[Z", true)
  | 8 => ("SyntheticChain", "touched", "[I", true)
  | 9 => ("SyntheticChain", "taken", "[Z", true)
  | 10 => ("SyntheticChain", "keep", "[Z", true)
  | 11 => ("SyntheticChain", "liveMask", "I", false)
  | 12 => ("SyntheticChain", "count", "I", false)
  | _ => ("SyntheticChain", "today", "I", false)
def tyX0 : Nat → FieldType := fun k => match k with
  | 0 => .array .int
  | 1 => .array .int
  | 2 => .array .int
  | 3 => .array .int
  | 4 => .array .int
  | 5 => .array .int
  | 6 => .array .int
  | 7 => .array .boolean
  | 8 => .array .int
  | 9 => .array .boolean
  | 10 => .array .boolean
  | 11 => .int
  | 12 => .int
  | _ => .int
abbrev wsX00 : List Cond := u_ws RX0 TX0 14
set_option maxRecDepth 100000 in
theorem nmX0 : ∀ a, a < 14 → ∀ b, b < 14 → a ≠ b → (TX0 a).2.1 ≠ (TX0 b).2.1 := by decide +kernel
set_option maxRecDepth 100000 in
theorem tyX0_ok : ∀ k, k < 14 → parseFieldDescriptor (TX0 k).2.2.1 = some (tyX0 k) := by decide +kernel
abbrev cX0_init : ByteArray := prog_1_method_1_code
def yX0_init : MethodName := ⟨RX0, "<init>", "()V"⟩
theorem dX0_init_0 : decode cX0_init 0 = .ok (.aload_n 0, 1) := by decide +kernel
theorem dX0_init_1 : decode cX0_init 1 = .ok (.invokespecial 1, 3) := by decide +kernel
theorem dX0_init_4 : decode cX0_init 4 = .ok (.aload_n 0, 1) := by decide +kernel
theorem dX0_init_5 : decode cX0_init 5 = .ok (.bipush 16, 2) := by decide +kernel
theorem dX0_init_7 : decode cX0_init 7 = .ok (.newarray .int, 2) := by decide +kernel
theorem dX0_init_9 : decode cX0_init 9 = .ok (.putfield 7, 3) := by decide +kernel
theorem dX0_init_12 : decode cX0_init 12 = .ok (.aload_n 0, 1) := by decide +kernel
theorem dX0_init_13 : decode cX0_init 13 = .ok (.bipush 14, 2) := by decide +kernel
theorem dX0_init_15 : decode cX0_init 15 = .ok (.newarray .int, 2) := by decide +kernel
theorem dX0_init_17 : decode cX0_init 17 = .ok (.putfield 13, 3) := by decide +kernel
theorem dX0_init_20 : decode cX0_init 20 = .ok (.aload_n 0, 1) := by decide +kernel
theorem dX0_init_21 : decode cX0_init 21 = .ok (.bipush 14, 2) := by decide +kernel
theorem dX0_init_23 : decode cX0_init 23 = .ok (.newarray .int, 2) := by decide +kernel
theorem dX0_init_25 : decode cX0_init 25 = .ok (.putfield 16, 3) := by decide +kernel
theorem dX0_init_28 : decode cX0_init 28 = .ok (.aload_n 0, 1) := by decide +kernel
theorem dX0_init_29 : decode cX0_init 29 = .ok (.bipush 14, 2) := by decide +kernel
theorem dX0_init_31 : decode cX0_init 31 = .ok (.newarray .int, 2) := by decide +kernel
theorem dX0_init_33 : decode cX0_init 33 = .ok (.putfield 19, 3) := by decide +kernel
theorem dX0_init_36 : decode cX0_init 36 = .ok (.aload_n 0, 1) := by decide +kernel
theorem dX0_init_37 : decode cX0_init 37 = .ok (.bipush 14, 2) := by decide +kernel
theorem dX0_init_39 : decode cX0_init 39 = .ok (.newarray .int, 2) := by decide +kernel
theorem dX0_init_41 : decode cX0_init 41 = .ok (.putfield 22, 3) := by decide +kernel
theorem dX0_init_44 : decode cX0_init 44 = .ok (.aload_n 0, 1) := by decide +kernel
theorem dX0_init_45 : decode cX0_init 45 = .ok (.sipush 224, 3) := by decide +kernel
theorem dX0_init_48 : decode cX0_init 48 = .ok (.newarray .int, 2) := by decide +kernel
theorem dX0_init_50 : decode cX0_init 50 = .ok (.putfield 25, 3) := by decide +kernel
theorem dX0_init_53 : decode cX0_init 53 = .ok (.aload_n 0, 1) := by decide +kernel
theorem dX0_init_54 : decode cX0_init 54 = .ok (.bipush 14, 2) := by decide +kernel
theorem dX0_init_56 : decode cX0_init 56 = .ok (.newarray .int, 2) := by decide +kernel
theorem dX0_init_58 : decode cX0_init 58 = .ok (.putfield 28, 3) := by decide +kernel
theorem dX0_init_61 : decode cX0_init 61 = .ok (.aload_n 0, 1) := by decide +kernel
theorem dX0_init_62 : decode cX0_init 62 = .ok (.bipush 14, 2) := by decide +kernel
theorem dX0_init_64 : decode cX0_init 64 = .ok (.newarray .boolean, 2) := by decide +kernel
theorem dX0_init_66 : decode cX0_init 66 = .ok (.putfield 31, 3) := by decide +kernel
theorem dX0_init_69 : decode cX0_init 69 = .ok (.aload_n 0, 1) := by decide +kernel
theorem dX0_init_70 : decode cX0_init 70 = .ok (.bipush 14, 2) := by decide +kernel
theorem dX0_init_72 : decode cX0_init 72 = .ok (.newarray .int, 2) := by decide +kernel
theorem dX0_init_74 : decode cX0_init 74 = .ok (.putfield 35, 3) := by decide +kernel
theorem dX0_init_77 : decode cX0_init 77 = .ok (.aload_n 0, 1) := by decide +kernel
theorem dX0_init_78 : decode cX0_init 78 = .ok (.bipush 14, 2) := by decide +kernel
theorem dX0_init_80 : decode cX0_init 80 = .ok (.newarray .boolean, 2) := by decide +kernel
theorem dX0_init_82 : decode cX0_init 82 = .ok (.putfield 38, 3) := by decide +kernel
theorem dX0_init_85 : decode cX0_init 85 = .ok (.aload_n 0, 1) := by decide +kernel
theorem dX0_init_86 : decode cX0_init 86 = .ok (.bipush 14, 2) := by decide +kernel
theorem dX0_init_88 : decode cX0_init 88 = .ok (.newarray .boolean, 2) := by decide +kernel
theorem dX0_init_90 : decode cX0_init 90 = .ok (.putfield 41, 3) := by decide +kernel
theorem dX0_init_93 : decode cX0_init 93 = .ok (.aload_n 0, 1) := by decide +kernel
theorem dX0_init_94 : decode cX0_init 94 = .ok (.iconst 0, 1) := by decide +kernel
theorem dX0_init_95 : decode cX0_init 95 = .ok (.putfield 44, 3) := by decide +kernel
theorem dX0_init_98 : decode cX0_init 98 = .ok (.return_, 1) := by decide +kernel
abbrev cX0_put : ByteArray := prog_1_method_2_code
def yX0_put : MethodName := ⟨RX0, "put", "(II)I"⟩
theorem dX0_put_0 : decode cX0_put 0 = .ok (.iload_n 1, 1) := by decide +kernel
theorem dX0_put_1 : decode cX0_put 1 = .ok (.invokestatic 48, 3) := by decide +kernel
theorem dX0_put_4 : decode cX0_put 4 = .ok (.ifCond .ne 5, 3) := by decide +kernel
theorem dX0_put_7 : decode cX0_put 7 = .ok (.iconst (-1), 1) := by decide +kernel
theorem dX0_put_8 : decode cX0_put 8 = .ok (.ireturn, 1) := by decide +kernel
theorem dX0_put_9 : decode cX0_put 9 = .ok (.aload_n 0, 1) := by decide +kernel
theorem dX0_put_10 : decode cX0_put 10 = .ok (.getfield 52, 3) := by decide +kernel
theorem dX0_put_13 : decode cX0_put 13 = .ok (.iload_n 1, 1) := by decide +kernel
theorem dX0_put_14 : decode cX0_put 14 = .ok (.ishr, 1) := by decide +kernel
theorem dX0_put_15 : decode cX0_put 15 = .ok (.iconst 1, 1) := by decide +kernel
theorem dX0_put_16 : decode cX0_put 16 = .ok (.iand, 1) := by decide +kernel
theorem dX0_put_17 : decode cX0_put 17 = .ok (.istore_n 3, 1) := by decide +kernel
theorem dX0_put_18 : decode cX0_put 18 = .ok (.aload_n 0, 1) := by decide +kernel
theorem dX0_put_19 : decode cX0_put 19 = .ok (.iload_n 1, 1) := by decide +kernel
theorem dX0_put_20 : decode cX0_put 20 = .ok (.iconst 1, 1) := by decide +kernel
theorem dX0_put_21 : decode cX0_put 21 = .ok (.iload_n 2, 1) := by decide +kernel
theorem dX0_put_22 : decode cX0_put 22 = .ok (.invokevirtual 55, 3) := by decide +kernel
theorem dX0_put_25 : decode cX0_put 25 = .ok (.iload_n 3, 1) := by decide +kernel
theorem dX0_put_26 : decode cX0_put 26 = .ok (.ireturn, 1) := by decide +kernel
abbrev cX0_isFile : ByteArray := prog_1_method_24_code
def yX0_isFile : MethodName := ⟨RX0, "isFile", "(I)Z"⟩
theorem dX0_isFile_0 : decode cX0_isFile 0 = .ok (.iload_n 0, 1) := by decide +kernel
theorem dX0_isFile_1 : decode cX0_isFile 1 = .ok (.ifCond .lt 13, 3) := by decide +kernel
theorem dX0_isFile_4 : decode cX0_isFile 4 = .ok (.iload_n 0, 1) := by decide +kernel
theorem dX0_isFile_5 : decode cX0_isFile 5 = .ok (.bipush 15, 2) := by decide +kernel
theorem dX0_isFile_7 : decode cX0_isFile 7 = .ok (.if_icmp .gt 7, 3) := by decide +kernel
theorem dX0_isFile_10 : decode cX0_isFile 10 = .ok (.iconst 1, 1) := by decide +kernel
theorem dX0_isFile_11 : decode cX0_isFile 11 = .ok (.goto 4, 3) := by decide +kernel
theorem dX0_isFile_14 : decode cX0_isFile 14 = .ok (.iconst 0, 1) := by decide +kernel
theorem dX0_isFile_15 : decode cX0_isFile 15 = .ok (.ireturn, 1) := by decide +kernel
abbrev cX0_setLive : ByteArray := prog_1_method_27_code
def yX0_setLive : MethodName := ⟨RX0, "setLive", "(IZI)V"⟩
theorem dX0_setLive_0 : decode cX0_setLive 0 = .ok (.aload_n 0, 1) := by decide +kernel
theorem dX0_setLive_1 : decode cX0_setLive 1 = .ok (.getfield 52, 3) := by decide +kernel
theorem dX0_setLive_4 : decode cX0_setLive 4 = .ok (.iload_n 1, 1) := by decide +kernel
theorem dX0_setLive_5 : decode cX0_setLive 5 = .ok (.invokestatic 59, 3) := by decide +kernel
theorem dX0_setLive_8 : decode cX0_setLive 8 = .ok (.iload_n 2, 1) := by decide +kernel
theorem dX0_setLive_9 : decode cX0_setLive 9 = .ok (.if_icmp .ne 18, 3) := by decide +kernel
theorem dX0_setLive_12 : decode cX0_setLive 12 = .ok (.iload_n 2, 1) := by decide +kernel
theorem dX0_setLive_13 : decode cX0_setLive 13 = .ok (.ifCond .eq 13, 3) := by decide +kernel
theorem dX0_setLive_16 : decode cX0_setLive 16 = .ok (.aload_n 0, 1) := by decide +kernel
theorem dX0_setLive_17 : decode cX0_setLive 17 = .ok (.getfield 7, 3) := by decide +kernel
theorem dX0_setLive_20 : decode cX0_setLive 20 = .ok (.iload_n 1, 1) := by decide +kernel
theorem dX0_setLive_21 : decode cX0_setLive 21 = .ok (.iaload, 1) := by decide +kernel
theorem dX0_setLive_22 : decode cX0_setLive 22 = .ok (.iload_n 3, 1) := by decide +kernel
theorem dX0_setLive_23 : decode cX0_setLive 23 = .ok (.if_icmp .ne 4, 3) := by decide +kernel
theorem dX0_setLive_26 : decode cX0_setLive 26 = .ok (.return_, 1) := by decide +kernel
theorem dX0_setLive_27 : decode cX0_setLive 27 = .ok (.iconst 1, 1) := by decide +kernel
theorem dX0_setLive_28 : decode cX0_setLive 28 = .ok (.iload_n 1, 1) := by decide +kernel
theorem dX0_setLive_29 : decode cX0_setLive 29 = .ok (.ishl, 1) := by decide +kernel
theorem dX0_setLive_30 : decode cX0_setLive 30 = .ok (.istore 4, 2) := by decide +kernel
theorem dX0_setLive_32 : decode cX0_setLive 32 = .ok (.aload_n 0, 1) := by decide +kernel
theorem dX0_setLive_33 : decode cX0_setLive 33 = .ok (.iload_n 2, 1) := by decide +kernel
theorem dX0_setLive_34 : decode cX0_setLive 34 = .ok (.ifCond .eq 13, 3) := by decide +kernel
theorem dX0_setLive_37 : decode cX0_setLive 37 = .ok (.aload_n 0, 1) := by decide +kernel
theorem dX0_setLive_38 : decode cX0_setLive 38 = .ok (.getfield 52, 3) := by decide +kernel
theorem dX0_setLive_41 : decode cX0_setLive 41 = .ok (.iload 4, 2) := by decide +kernel
theorem dX0_setLive_43 : decode cX0_setLive 43 = .ok (.ior, 1) := by decide +kernel
theorem dX0_setLive_44 : decode cX0_setLive 44 = .ok (.goto 12, 3) := by decide +kernel
theorem dX0_setLive_47 : decode cX0_setLive 47 = .ok (.aload_n 0, 1) := by decide +kernel
theorem dX0_setLive_48 : decode cX0_setLive 48 = .ok (.getfield 52, 3) := by decide +kernel
theorem dX0_setLive_51 : decode cX0_setLive 51 = .ok (.iload 4, 2) := by decide +kernel
theorem dX0_setLive_53 : decode cX0_setLive 53 = .ok (.iconst (-1), 1) := by decide +kernel
theorem dX0_setLive_54 : decode cX0_setLive 54 = .ok (.ixor, 1) := by decide +kernel
theorem dX0_setLive_55 : decode cX0_setLive 55 = .ok (.iand, 1) := by decide +kernel
theorem dX0_setLive_56 : decode cX0_setLive 56 = .ok (.putfield 52, 3) := by decide +kernel
theorem dX0_setLive_59 : decode cX0_setLive 59 = .ok (.aload_n 0, 1) := by decide +kernel
theorem dX0_setLive_60 : decode cX0_setLive 60 = .ok (.getfield 7, 3) := by decide +kernel
theorem dX0_setLive_63 : decode cX0_setLive 63 = .ok (.iload_n 1, 1) := by decide +kernel
theorem dX0_setLive_64 : decode cX0_setLive 64 = .ok (.iload_n 2, 1) := by decide +kernel
theorem dX0_setLive_65 : decode cX0_setLive 65 = .ok (.ifCond .eq 7, 3) := by decide +kernel
theorem dX0_setLive_68 : decode cX0_setLive 68 = .ok (.iload_n 3, 1) := by decide +kernel
theorem dX0_setLive_69 : decode cX0_setLive 69 = .ok (.goto 4, 3) := by decide +kernel
theorem dX0_setLive_72 : decode cX0_setLive 72 = .ok (.iconst 0, 1) := by decide +kernel
theorem dX0_setLive_73 : decode cX0_setLive 73 = .ok (.iastore, 1) := by decide +kernel
theorem dX0_setLive_74 : decode cX0_setLive 74 = .ok (.iconst 0, 1) := by decide +kernel
theorem dX0_setLive_75 : decode cX0_setLive 75 = .ok (.istore 5, 2) := by decide +kernel
theorem dX0_setLive_77 : decode cX0_setLive 77 = .ok (.iload 5, 2) := by decide +kernel
theorem dX0_setLive_79 : decode cX0_setLive 79 = .ok (.bipush 14, 2) := by decide +kernel
theorem dX0_setLive_81 : decode cX0_setLive 81 = .ok (.if_icmp .ge 26, 3) := by decide +kernel
theorem dX0_setLive_84 : decode cX0_setLive 84 = .ok (.aload_n 0, 1) := by decide +kernel
theorem dX0_setLive_85 : decode cX0_setLive 85 = .ok (.getfield 35, 3) := by decide +kernel
theorem dX0_setLive_88 : decode cX0_setLive 88 = .ok (.iload 5, 2) := by decide +kernel
theorem dX0_setLive_90 : decode cX0_setLive 90 = .ok (.aload_n 0, 1) := by decide +kernel
theorem dX0_setLive_91 : decode cX0_setLive 91 = .ok (.getfield 35, 3) := by decide +kernel
theorem dX0_setLive_94 : decode cX0_setLive 94 = .ok (.iload 5, 2) := by decide +kernel
theorem dX0_setLive_96 : decode cX0_setLive 96 = .ok (.iaload, 1) := by decide +kernel
theorem dX0_setLive_97 : decode cX0_setLive 97 = .ok (.iload 4, 2) := by decide +kernel
theorem dX0_setLive_99 : decode cX0_setLive 99 = .ok (.ior, 1) := by decide +kernel
theorem dX0_setLive_100 : decode cX0_setLive 100 = .ok (.iastore, 1) := by decide +kernel
theorem dX0_setLive_101 : decode cX0_setLive 101 = .ok (.iinc 5 1, 3) := by decide +kernel
theorem dX0_setLive_104 : decode cX0_setLive 104 = .ok (.goto (-27), 3) := by decide +kernel
theorem dX0_setLive_107 : decode cX0_setLive 107 = .ok (.return_, 1) := by decide +kernel
abbrev cX0_has : ByteArray := prog_1_method_26_code
def yX0_has : MethodName := ⟨RX0, "has", "(II)Z"⟩
theorem dX0_has_0 : decode cX0_has 0 = .ok (.iload_n 0, 1) := by decide +kernel
theorem dX0_has_1 : decode cX0_has 1 = .ok (.iload_n 1, 1) := by decide +kernel
theorem dX0_has_2 : decode cX0_has 2 = .ok (.ishr, 1) := by decide +kernel
theorem dX0_has_3 : decode cX0_has 3 = .ok (.iconst 1, 1) := by decide +kernel
theorem dX0_has_4 : decode cX0_has 4 = .ok (.iand, 1) := by decide +kernel
theorem dX0_has_5 : decode cX0_has 5 = .ok (.iconst 1, 1) := by decide +kernel
theorem dX0_has_6 : decode cX0_has 6 = .ok (.if_icmp .ne 7, 3) := by decide +kernel
theorem dX0_has_9 : decode cX0_has 9 = .ok (.iconst 1, 1) := by decide +kernel
theorem dX0_has_10 : decode cX0_has 10 = .ok (.goto 4, 3) := by decide +kernel
theorem dX0_has_13 : decode cX0_has 13 = .ok (.iconst 0, 1) := by decide +kernel
theorem dX0_has_14 : decode cX0_has 14 = .ok (.ireturn, 1) := by decide +kernel
abbrev cX0_delete : ByteArray := prog_1_method_3_code
def yX0_delete : MethodName := ⟨RX0, "delete", "(I)I"⟩
theorem dX0_delete_0 : decode cX0_delete 0 = .ok (.iload_n 1, 1) := by decide +kernel
theorem dX0_delete_1 : decode cX0_delete 1 = .ok (.invokestatic 48, 3) := by decide +kernel
theorem dX0_delete_4 : decode cX0_delete 4 = .ok (.ifCond .ne 5, 3) := by decide +kernel
theorem dX0_delete_7 : decode cX0_delete 7 = .ok (.iconst (-1), 1) := by decide +kernel
theorem dX0_delete_8 : decode cX0_delete 8 = .ok (.ireturn, 1) := by decide +kernel
theorem dX0_delete_9 : decode cX0_delete 9 = .ok (.aload_n 0, 1) := by decide +kernel
theorem dX0_delete_10 : decode cX0_delete 10 = .ok (.getfield 52, 3) := by decide +kernel
theorem dX0_delete_13 : decode cX0_delete 13 = .ok (.iload_n 1, 1) := by decide +kernel
theorem dX0_delete_14 : decode cX0_delete 14 = .ok (.ishr, 1) := by decide +kernel
theorem dX0_delete_15 : decode cX0_delete 15 = .ok (.iconst 1, 1) := by decide +kernel
theorem dX0_delete_16 : decode cX0_delete 16 = .ok (.iand, 1) := by decide +kernel
theorem dX0_delete_17 : decode cX0_delete 17 = .ok (.istore_n 2, 1) := by decide +kernel
theorem dX0_delete_18 : decode cX0_delete 18 = .ok (.aload_n 0, 1) := by decide +kernel
theorem dX0_delete_19 : decode cX0_delete 19 = .ok (.iload_n 1, 1) := by decide +kernel
theorem dX0_delete_20 : decode cX0_delete 20 = .ok (.iconst 0, 1) := by decide +kernel
theorem dX0_delete_21 : decode cX0_delete 21 = .ok (.iconst 0, 1) := by decide +kernel
theorem dX0_delete_22 : decode cX0_delete 22 = .ok (.invokevirtual 55, 3) := by decide +kernel
theorem dX0_delete_25 : decode cX0_delete 25 = .ok (.iload_n 2, 1) := by decide +kernel
theorem dX0_delete_26 : decode cX0_delete 26 = .ok (.ireturn, 1) := by decide +kernel
abbrev cX0_rename : ByteArray := prog_1_method_4_code
def yX0_rename : MethodName := ⟨RX0, "rename", "(II)I"⟩
theorem dX0_rename_0 : decode cX0_rename 0 = .ok (.iload_n 1, 1) := by decide +kernel
theorem dX0_rename_1 : decode cX0_rename 1 = .ok (.invokestatic 48, 3) := by decide +kernel
theorem dX0_rename_4 : decode cX0_rename 4 = .ok (.ifCond .eq 10, 3) := by decide +kernel
theorem dX0_rename_7 : decode cX0_rename 7 = .ok (.iload_n 2, 1) := by decide +kernel
theorem dX0_rename_8 : decode cX0_rename 8 = .ok (.invokestatic 48, 3) := by decide +kernel
theorem dX0_rename_11 : decode cX0_rename 11 = .ok (.ifCond .ne 5, 3) := by decide +kernel
theorem dX0_rename_14 : decode cX0_rename 14 = .ok (.iconst (-1), 1) := by decide +kernel
theorem dX0_rename_15 : decode cX0_rename 15 = .ok (.ireturn, 1) := by decide +kernel
theorem dX0_rename_16 : decode cX0_rename 16 = .ok (.iload_n 1, 1) := by decide +kernel
theorem dX0_rename_17 : decode cX0_rename 17 = .ok (.iload_n 2, 1) := by decide +kernel
theorem dX0_rename_18 : decode cX0_rename 18 = .ok (.if_icmp .ne 6, 3) := by decide +kernel
theorem dX0_rename_21 : decode cX0_rename 21 = .ok (.bipush (-2), 2) := by decide +kernel
theorem dX0_rename_23 : decode cX0_rename 23 = .ok (.ireturn, 1) := by decide +kernel
theorem dX0_rename_24 : decode cX0_rename 24 = .ok (.aload_n 0, 1) := by decide +kernel
theorem dX0_rename_25 : decode cX0_rename 25 = .ok (.getfield 52, 3) := by decide +kernel
theorem dX0_rename_28 : decode cX0_rename 28 = .ok (.iload_n 1, 1) := by decide +kernel
theorem dX0_rename_29 : decode cX0_rename 29 = .ok (.invokestatic 59, 3) := by decide +kernel
theorem dX0_rename_32 : decode cX0_rename 32 = .ok (.ifCond .ne 6, 3) := by decide +kernel
theorem dX0_rename_35 : decode cX0_rename 35 = .ok (.bipush (-3), 2) := by decide +kernel
theorem dX0_rename_37 : decode cX0_rename 37 = .ok (.ireturn, 1) := by decide +kernel
theorem dX0_rename_38 : decode cX0_rename 38 = .ok (.aload_n 0, 1) := by decide +kernel
theorem dX0_rename_39 : decode cX0_rename 39 = .ok (.iload_n 2, 1) := by decide +kernel
theorem dX0_rename_40 : decode cX0_rename 40 = .ok (.iconst 1, 1) := by decide +kernel
theorem dX0_rename_41 : decode cX0_rename 41 = .ok (.aload_n 0, 1) := by decide +kernel
theorem dX0_rename_42 : decode cX0_rename 42 = .ok (.getfield 7, 3) := by decide +kernel
theorem dX0_rename_45 : decode cX0_rename 45 = .ok (.iload_n 1, 1) := by decide +kernel
theorem dX0_rename_46 : decode cX0_rename 46 = .ok (.iaload, 1) := by decide +kernel
theorem dX0_rename_47 : decode cX0_rename 47 = .ok (.invokevirtual 55, 3) := by decide +kernel
theorem dX0_rename_50 : decode cX0_rename 50 = .ok (.aload_n 0, 1) := by decide +kernel
theorem dX0_rename_51 : decode cX0_rename 51 = .ok (.iload_n 1, 1) := by decide +kernel
theorem dX0_rename_52 : decode cX0_rename 52 = .ok (.iconst 0, 1) := by decide +kernel
theorem dX0_rename_53 : decode cX0_rename 53 = .ok (.iconst 0, 1) := by decide +kernel
theorem dX0_rename_54 : decode cX0_rename 54 = .ok (.invokevirtual 55, 3) := by decide +kernel
theorem dX0_rename_57 : decode cX0_rename 57 = .ok (.iconst 0, 1) := by decide +kernel
theorem dX0_rename_58 : decode cX0_rename 58 = .ok (.ireturn, 1) := by decide +kernel
abbrev cX0_rewrite : ByteArray := prog_1_method_5_code
def yX0_rewrite : MethodName := ⟨RX0, "rewrite", "(III)I"⟩
theorem dX0_rewrite_0 : decode cX0_rewrite 0 = .ok (.iload_n 1, 1) := by decide +kernel
theorem dX0_rewrite_1 : decode cX0_rewrite 1 = .ok (.invokestatic 48, 3) := by decide +kernel
theorem dX0_rewrite_4 : decode cX0_rewrite 4 = .ok (.ifCond .ne 5, 3) := by decide +kernel
theorem dX0_rewrite_7 : decode cX0_rewrite 7 = .ok (.iconst (-1), 1) := by decide +kernel
theorem dX0_rewrite_8 : decode cX0_rewrite 8 = .ok (.ireturn, 1) := by decide +kernel
theorem dX0_rewrite_9 : decode cX0_rewrite 9 = .ok (.iconst 0, 1) := by decide +kernel
theorem dX0_rewrite_10 : decode cX0_rewrite 10 = .ok (.istore 4, 2) := by decide +kernel
theorem dX0_rewrite_12 : decode cX0_rewrite 12 = .ok (.iload_n 1, 1) := by decide +kernel
theorem dX0_rewrite_13 : decode cX0_rewrite 13 = .ok (.istore 5, 2) := by decide +kernel
theorem dX0_rewrite_15 : decode cX0_rewrite 15 = .ok (.iload 5, 2) := by decide +kernel
theorem dX0_rewrite_17 : decode cX0_rewrite 17 = .ok (.bipush 16, 2) := by decide +kernel
theorem dX0_rewrite_19 : decode cX0_rewrite 19 = .ok (.if_icmp .ge 37, 3) := by decide +kernel
theorem dX0_rewrite_22 : decode cX0_rewrite 22 = .ok (.aload_n 0, 1) := by decide +kernel
theorem dX0_rewrite_23 : decode cX0_rewrite 23 = .ok (.getfield 52, 3) := by decide +kernel
theorem dX0_rewrite_26 : decode cX0_rewrite 26 = .ok (.iload 5, 2) := by decide +kernel
theorem dX0_rewrite_28 : decode cX0_rewrite 28 = .ok (.invokestatic 59, 3) := by decide +kernel
theorem dX0_rewrite_31 : decode cX0_rewrite 31 = .ok (.ifCond .eq 19, 3) := by decide +kernel
theorem dX0_rewrite_34 : decode cX0_rewrite 34 = .ok (.aload_n 0, 1) := by decide +kernel
theorem dX0_rewrite_35 : decode cX0_rewrite 35 = .ok (.iload 5, 2) := by decide +kernel
theorem dX0_rewrite_37 : decode cX0_rewrite 37 = .ok (.iconst 1, 1) := by decide +kernel
theorem dX0_rewrite_38 : decode cX0_rewrite 38 = .ok (.iload_n 2, 1) := by decide +kernel
theorem dX0_rewrite_39 : decode cX0_rewrite 39 = .ok (.iload 5, 2) := by decide +kernel
theorem dX0_rewrite_41 : decode cX0_rewrite 41 = .ok (.iload_n 3, 1) := by decide +kernel
theorem dX0_rewrite_42 : decode cX0_rewrite 42 = .ok (.imul, 1) := by decide +kernel
theorem dX0_rewrite_43 : decode cX0_rewrite 43 = .ok (.iadd, 1) := by decide +kernel
theorem dX0_rewrite_44 : decode cX0_rewrite 44 = .ok (.invokevirtual 55, 3) := by decide +kernel
theorem dX0_rewrite_47 : decode cX0_rewrite 47 = .ok (.iinc 4 1, 3) := by decide +kernel
theorem dX0_rewrite_50 : decode cX0_rewrite 50 = .ok (.iinc 5 1, 3) := by decide +kernel
theorem dX0_rewrite_53 : decode cX0_rewrite 53 = .ok (.goto (-38), 3) := by decide +kernel
theorem dX0_rewrite_56 : decode cX0_rewrite 56 = .ok (.iload 4, 2) := by decide +kernel
theorem dX0_rewrite_58 : decode cX0_rewrite 58 = .ok (.ireturn, 1) := by decide +kernel
abbrev cX0_advance : ByteArray := prog_1_method_6_code
def yX0_advance : MethodName := ⟨RX0, "advance", "(I)I"⟩
theorem dX0_advance_0 : decode cX0_advance 0 = .ok (.iload_n 1, 1) := by decide +kernel
theorem dX0_advance_1 : decode cX0_advance 1 = .ok (.iconst 1, 1) := by decide +kernel
theorem dX0_advance_2 : decode cX0_advance 2 = .ok (.if_icmp .lt 9, 3) := by decide +kernel
theorem dX0_advance_5 : decode cX0_advance 5 = .ok (.iload_n 1, 1) := by decide +kernel
theorem dX0_advance_6 : decode cX0_advance 6 = .ok (.bipush 60, 2) := by decide +kernel
theorem dX0_advance_8 : decode cX0_advance 8 = .ok (.if_icmp .le 5, 3) := by decide +kernel
theorem dX0_advance_11 : decode cX0_advance 11 = .ok (.iconst (-1), 1) := by decide +kernel
theorem dX0_advance_12 : decode cX0_advance 12 = .ok (.ireturn, 1) := by decide +kernel
theorem dX0_advance_13 : decode cX0_advance 13 = .ok (.aload_n 0, 1) := by decide +kernel
theorem dX0_advance_14 : decode cX0_advance 14 = .ok (.getfield 63, 3) := by decide +kernel
theorem dX0_advance_17 : decode cX0_advance 17 = .ok (.iload_n 1, 1) := by decide +kernel
theorem dX0_advance_18 : decode cX0_advance 18 = .ok (.iadd, 1) := by decide +kernel
theorem dX0_advance_19 : decode cX0_advance 19 = .ok (.sipush 5000, 3) := by decide +kernel
theorem dX0_advance_22 : decode cX0_advance 22 = .ok (.if_icmp .le 6, 3) := by decide +kernel
theorem dX0_advance_25 : decode cX0_advance 25 = .ok (.bipush (-2), 2) := by decide +kernel
theorem dX0_advance_27 : decode cX0_advance 27 = .ok (.ireturn, 1) := by decide +kernel
theorem dX0_advance_28 : decode cX0_advance 28 = .ok (.aload_n 0, 1) := by decide +kernel
theorem dX0_advance_29 : decode cX0_advance 29 = .ok (.dup, 1) := by decide +kernel
theorem dX0_advance_30 : decode cX0_advance 30 = .ok (.getfield 63, 3) := by decide +kernel
theorem dX0_advance_33 : decode cX0_advance 33 = .ok (.iload_n 1, 1) := by decide +kernel
theorem dX0_advance_34 : decode cX0_advance 34 = .ok (.iadd, 1) := by decide +kernel
theorem dX0_advance_35 : decode cX0_advance 35 = .ok (.putfield 63, 3) := by decide +kernel
theorem dX0_advance_38 : decode cX0_advance 38 = .ok (.aload_n 0, 1) := by decide +kernel
theorem dX0_advance_39 : decode cX0_advance 39 = .ok (.getfield 63, 3) := by decide +kernel
theorem dX0_advance_42 : decode cX0_advance 42 = .ok (.ireturn, 1) := by decide +kernel
abbrev cX0_take : ByteArray := prog_1_method_7_code
def yX0_take : MethodName := ⟨RX0, "take", "(I)I"⟩
theorem dX0_take_0 : decode cX0_take 0 = .ok (.iload_n 1, 1) := by decide +kernel
theorem dX0_take_1 : decode cX0_take 1 = .ok (.ifCond .lt 8, 3) := by decide +kernel
theorem dX0_take_4 : decode cX0_take 4 = .ok (.iload_n 1, 1) := by decide +kernel
theorem dX0_take_5 : decode cX0_take 5 = .ok (.iconst 2, 1) := by decide +kernel
theorem dX0_take_6 : decode cX0_take 6 = .ok (.if_icmp .le 5, 3) := by decide +kernel
theorem dX0_take_9 : decode cX0_take 9 = .ok (.iconst (-1), 1) := by decide +kernel
theorem dX0_take_10 : decode cX0_take 10 = .ok (.ireturn, 1) := by decide +kernel
theorem dX0_take_11 : decode cX0_take 11 = .ok (.aload_n 0, 1) := by decide +kernel
theorem dX0_take_12 : decode cX0_take 12 = .ok (.getfield 44, 3) := by decide +kernel
theorem dX0_take_15 : decode cX0_take 15 = .ok (.bipush 14, 2) := by decide +kernel
theorem dX0_take_17 : decode cX0_take 17 = .ok (.if_icmp .ne 6, 3) := by decide +kernel
theorem dX0_take_20 : decode cX0_take 20 = .ok (.bipush (-2), 2) := by decide +kernel
theorem dX0_take_22 : decode cX0_take 22 = .ok (.ireturn, 1) := by decide +kernel
theorem dX0_take_23 : decode cX0_take 23 = .ok (.aload_n 0, 1) := by decide +kernel
theorem dX0_take_24 : decode cX0_take 24 = .ok (.invokevirtual 66, 3) := by decide +kernel
theorem dX0_take_27 : decode cX0_take 27 = .ok (.istore_n 2, 1) := by decide +kernel
theorem dX0_take_28 : decode cX0_take 28 = .ok (.aload_n 0, 1) := by decide +kernel
theorem dX0_take_29 : decode cX0_take 29 = .ok (.iload_n 1, 1) := by decide +kernel
theorem dX0_take_30 : decode cX0_take 30 = .ok (.invokevirtual 70, 3) := by decide +kernel
theorem dX0_take_33 : decode cX0_take 33 = .ok (.istore_n 3, 1) := by decide +kernel
theorem dX0_take_34 : decode cX0_take 34 = .ok (.aload_n 0, 1) := by decide +kernel
theorem dX0_take_35 : decode cX0_take 35 = .ok (.getfield 16, 3) := by decide +kernel
theorem dX0_take_38 : decode cX0_take 38 = .ok (.iload_n 2, 1) := by decide +kernel
theorem dX0_take_39 : decode cX0_take 39 = .ok (.iload_n 3, 1) := by decide +kernel
theorem dX0_take_40 : decode cX0_take 40 = .ok (.iastore, 1) := by decide +kernel
theorem dX0_take_41 : decode cX0_take 41 = .ok (.aload_n 0, 1) := by decide +kernel
theorem dX0_take_42 : decode cX0_take 42 = .ok (.getfield 19, 3) := by decide +kernel
theorem dX0_take_45 : decode cX0_take 45 = .ok (.iload_n 2, 1) := by decide +kernel
theorem dX0_take_46 : decode cX0_take 46 = .ok (.iload_n 3, 1) := by decide +kernel
theorem dX0_take_47 : decode cX0_take 47 = .ok (.iconst (-1), 1) := by decide +kernel
theorem dX0_take_48 : decode cX0_take 48 = .ok (.if_icmp .ne 8, 3) := by decide +kernel
theorem dX0_take_51 : decode cX0_take 51 = .ok (.ldc 74, 2) := by decide +kernel
theorem dX0_take_53 : decode cX0_take 53 = .ok (.goto 9, 3) := by decide +kernel
theorem dX0_take_56 : decode cX0_take 56 = .ok (.aload_n 0, 1) := by decide +kernel
theorem dX0_take_57 : decode cX0_take 57 = .ok (.getfield 35, 3) := by decide +kernel
theorem dX0_take_60 : decode cX0_take 60 = .ok (.iload_n 3, 1) := by decide +kernel
theorem dX0_take_61 : decode cX0_take 61 = .ok (.iaload, 1) := by decide +kernel
theorem dX0_take_62 : decode cX0_take 62 = .ok (.iastore, 1) := by decide +kernel
theorem dX0_take_63 : decode cX0_take 63 = .ok (.aload_n 0, 1) := by decide +kernel
theorem dX0_take_64 : decode cX0_take 64 = .ok (.getfield 22, 3) := by decide +kernel
theorem dX0_take_67 : decode cX0_take 67 = .ok (.iload_n 2, 1) := by decide +kernel
theorem dX0_take_68 : decode cX0_take 68 = .ok (.aload_n 0, 1) := by decide +kernel
theorem dX0_take_69 : decode cX0_take 69 = .ok (.getfield 52, 3) := by decide +kernel
theorem dX0_take_72 : decode cX0_take 72 = .ok (.aload_n 0, 1) := by decide +kernel
theorem dX0_take_73 : decode cX0_take 73 = .ok (.getfield 19, 3) := by decide +kernel
theorem dX0_take_76 : decode cX0_take 76 = .ok (.iload_n 2, 1) := by decide +kernel
theorem dX0_take_77 : decode cX0_take 77 = .ok (.iaload, 1) := by decide +kernel
theorem dX0_take_78 : decode cX0_take 78 = .ok (.iand, 1) := by decide +kernel
theorem dX0_take_79 : decode cX0_take 79 = .ok (.iastore, 1) := by decide +kernel
theorem dX0_take_80 : decode cX0_take 80 = .ok (.iconst 0, 1) := by decide +kernel
theorem dX0_take_81 : decode cX0_take 81 = .ok (.istore 4, 2) := by decide +kernel
theorem dX0_take_83 : decode cX0_take 83 = .ok (.iload 4, 2) := by decide +kernel
theorem dX0_take_85 : decode cX0_take 85 = .ok (.bipush 16, 2) := by decide +kernel
theorem dX0_take_87 : decode cX0_take 87 = .ok (.if_icmp .ge 46, 3) := by decide +kernel
theorem dX0_take_90 : decode cX0_take 90 = .ok (.aload_n 0, 1) := by decide +kernel
theorem dX0_take_91 : decode cX0_take 91 = .ok (.getfield 25, 3) := by decide +kernel
theorem dX0_take_94 : decode cX0_take 94 = .ok (.bipush 16, 2) := by decide +kernel
theorem dX0_take_96 : decode cX0_take 96 = .ok (.iload_n 2, 1) := by decide +kernel
theorem dX0_take_97 : decode cX0_take 97 = .ok (.imul, 1) := by decide +kernel
theorem dX0_take_98 : decode cX0_take 98 = .ok (.iload 4, 2) := by decide +kernel
theorem dX0_take_100 : decode cX0_take 100 = .ok (.iadd, 1) := by decide +kernel
theorem dX0_take_101 : decode cX0_take 101 = .ok (.aload_n 0, 1) := by decide +kernel
theorem dX0_take_102 : decode cX0_take 102 = .ok (.getfield 19, 3) := by decide +kernel
theorem dX0_take_105 : decode cX0_take 105 = .ok (.iload_n 2, 1) := by decide +kernel
theorem dX0_take_106 : decode cX0_take 106 = .ok (.iaload, 1) := by decide +kernel
theorem dX0_take_107 : decode cX0_take 107 = .ok (.iload 4, 2) := by decide +kernel
theorem dX0_take_109 : decode cX0_take 109 = .ok (.invokestatic 59, 3) := by decide +kernel
theorem dX0_take_112 : decode cX0_take 112 = .ok (.ifCond .eq 13, 3) := by decide +kernel
theorem dX0_take_115 : decode cX0_take 115 = .ok (.aload_n 0, 1) := by decide +kernel
theorem dX0_take_116 : decode cX0_take 116 = .ok (.getfield 7, 3) := by decide +kernel
theorem dX0_take_119 : decode cX0_take 119 = .ok (.iload 4, 2) := by decide +kernel
theorem dX0_take_121 : decode cX0_take 121 = .ok (.iaload, 1) := by decide +kernel
theorem dX0_take_122 : decode cX0_take 122 = .ok (.goto 4, 3) := by decide +kernel
theorem dX0_take_125 : decode cX0_take 125 = .ok (.iconst 0, 1) := by decide +kernel
theorem dX0_take_126 : decode cX0_take 126 = .ok (.iastore, 1) := by decide +kernel
theorem dX0_take_127 : decode cX0_take 127 = .ok (.iinc 4 1, 3) := by decide +kernel
theorem dX0_take_130 : decode cX0_take 130 = .ok (.goto (-47), 3) := by decide +kernel
theorem dX0_take_133 : decode cX0_take 133 = .ok (.aload_n 0, 1) := by decide +kernel
theorem dX0_take_134 : decode cX0_take 134 = .ok (.getfield 28, 3) := by decide +kernel
theorem dX0_take_137 : decode cX0_take 137 = .ok (.iload_n 2, 1) := by decide +kernel
theorem dX0_take_138 : decode cX0_take 138 = .ok (.aload_n 0, 1) := by decide +kernel
theorem dX0_take_139 : decode cX0_take 139 = .ok (.getfield 63, 3) := by decide +kernel
theorem dX0_take_142 : decode cX0_take 142 = .ok (.iastore, 1) := by decide +kernel
theorem dX0_take_143 : decode cX0_take 143 = .ok (.aload_n 0, 1) := by decide +kernel
theorem dX0_take_144 : decode cX0_take 144 = .ok (.getfield 31, 3) := by decide +kernel
theorem dX0_take_147 : decode cX0_take 147 = .ok (.iload_n 2, 1) := by decide +kernel
theorem dX0_take_148 : decode cX0_take 148 = .ok (.iconst 0, 1) := by decide +kernel
theorem dX0_take_149 : decode cX0_take 149 = .ok (.bastore, 1) := by decide +kernel
theorem dX0_take_150 : decode cX0_take 150 = .ok (.aload_n 0, 1) := by decide +kernel
theorem dX0_take_151 : decode cX0_take 151 = .ok (.getfield 35, 3) := by decide +kernel
theorem dX0_take_154 : decode cX0_take 154 = .ok (.iload_n 2, 1) := by decide +kernel
theorem dX0_take_155 : decode cX0_take 155 = .ok (.iconst 0, 1) := by decide +kernel
theorem dX0_take_156 : decode cX0_take 156 = .ok (.iastore, 1) := by decide +kernel
theorem dX0_take_157 : decode cX0_take 157 = .ok (.aload_n 0, 1) := by decide +kernel
theorem dX0_take_158 : decode cX0_take 158 = .ok (.getfield 38, 3) := by decide +kernel
theorem dX0_take_161 : decode cX0_take 161 = .ok (.iload_n 2, 1) := by decide +kernel
theorem dX0_take_162 : decode cX0_take 162 = .ok (.iconst 1, 1) := by decide +kernel
theorem dX0_take_163 : decode cX0_take 163 = .ok (.bastore, 1) := by decide +kernel
theorem dX0_take_164 : decode cX0_take 164 = .ok (.aload_n 0, 1) := by decide +kernel
theorem dX0_take_165 : decode cX0_take 165 = .ok (.getfield 13, 3) := by decide +kernel
theorem dX0_take_168 : decode cX0_take 168 = .ok (.aload_n 0, 1) := by decide +kernel
theorem dX0_take_169 : decode cX0_take 169 = .ok (.getfield 44, 3) := by decide +kernel
theorem dX0_take_172 : decode cX0_take 172 = .ok (.iload_n 2, 1) := by decide +kernel
theorem dX0_take_173 : decode cX0_take 173 = .ok (.iastore, 1) := by decide +kernel
theorem dX0_take_174 : decode cX0_take 174 = .ok (.aload_n 0, 1) := by decide +kernel
theorem dX0_take_175 : decode cX0_take 175 = .ok (.dup, 1) := by decide +kernel
theorem dX0_take_176 : decode cX0_take 176 = .ok (.getfield 44, 3) := by decide +kernel
theorem dX0_take_179 : decode cX0_take 179 = .ok (.iconst 1, 1) := by decide +kernel
theorem dX0_take_180 : decode cX0_take 180 = .ok (.iadd, 1) := by decide +kernel
theorem dX0_take_181 : decode cX0_take 181 = .ok (.putfield 44, 3) := by decide +kernel
theorem dX0_take_184 : decode cX0_take 184 = .ok (.aload_n 0, 1) := by decide +kernel
theorem dX0_take_185 : decode cX0_take 185 = .ok (.getfield 44, 3) := by decide +kernel
theorem dX0_take_188 : decode cX0_take 188 = .ok (.iconst 1, 1) := by decide +kernel
theorem dX0_take_189 : decode cX0_take 189 = .ok (.isub, 1) := by decide +kernel
theorem dX0_take_190 : decode cX0_take 190 = .ok (.ireturn, 1) := by decide +kernel
abbrev cX0_freeSlot : ByteArray := prog_1_method_28_code
def yX0_freeSlot : MethodName := ⟨RX0, "freeSlot", "()I"⟩
theorem dX0_freeSlot_0 : decode cX0_freeSlot 0 = .ok (.iconst 0, 1) := by decide +kernel
theorem dX0_freeSlot_1 : decode cX0_freeSlot 1 = .ok (.istore_n 1, 1) := by decide +kernel
theorem dX0_freeSlot_2 : decode cX0_freeSlot 2 = .ok (.iload_n 1, 1) := by decide +kernel
theorem dX0_freeSlot_3 : decode cX0_freeSlot 3 = .ok (.bipush 14, 2) := by decide +kernel
theorem dX0_freeSlot_5 : decode cX0_freeSlot 5 = .ok (.if_icmp .ge 20, 3) := by decide +kernel
theorem dX0_freeSlot_8 : decode cX0_freeSlot 8 = .ok (.aload_n 0, 1) := by decide +kernel
theorem dX0_freeSlot_9 : decode cX0_freeSlot 9 = .ok (.getfield 38, 3) := by decide +kernel
theorem dX0_freeSlot_12 : decode cX0_freeSlot 12 = .ok (.iload_n 1, 1) := by decide +kernel
theorem dX0_freeSlot_13 : decode cX0_freeSlot 13 = .ok (.baload, 1) := by decide +kernel
theorem dX0_freeSlot_14 : decode cX0_freeSlot 14 = .ok (.ifCond .ne 5, 3) := by decide +kernel
theorem dX0_freeSlot_17 : decode cX0_freeSlot 17 = .ok (.iload_n 1, 1) := by decide +kernel
theorem dX0_freeSlot_18 : decode cX0_freeSlot 18 = .ok (.ireturn, 1) := by decide +kernel
theorem dX0_freeSlot_19 : decode cX0_freeSlot 19 = .ok (.iinc 1 1, 3) := by decide +kernel
theorem dX0_freeSlot_22 : decode cX0_freeSlot 22 = .ok (.goto (-20), 3) := by decide +kernel
theorem dX0_freeSlot_25 : decode cX0_freeSlot 25 = .ok (.iconst 0, 1) := by decide +kernel
theorem dX0_freeSlot_26 : decode cX0_freeSlot 26 = .ok (.ireturn, 1) := by decide +kernel
end
section
set_option maxRecDepth 100000
abbrev cX0_baseFor : ByteArray := prog_1_method_29_code
def yX0_baseFor : MethodName := ⟨RX0, "baseFor", "(I)I"⟩
theorem dX0_baseFor_0 : decode cX0_baseFor 0 = .ok (.iload_n 1, 1) := by decide +kernel
theorem dX0_baseFor_1 : decode cX0_baseFor 1 = .ok (.ifCond .eq 10, 3) := by decide +kernel
theorem dX0_baseFor_4 : decode cX0_baseFor 4 = .ok (.aload_n 0, 1) := by decide +kernel
theorem dX0_baseFor_5 : decode cX0_baseFor 5 = .ok (.getfield 44, 3) := by decide +kernel
theorem dX0_baseFor_8 : decode cX0_baseFor 8 = .ok (.ifCond .ne 5, 3) := by decide +kernel
theorem dX0_baseFor_11 : decode cX0_baseFor 11 = .ok (.iconst (-1), 1) := by decide +kernel
theorem dX0_baseFor_12 : decode cX0_baseFor 12 = .ok (.ireturn, 1) := by decide +kernel
theorem dX0_baseFor_13 : decode cX0_baseFor 13 = .ok (.aload_n 0, 1) := by decide +kernel
theorem dX0_baseFor_14 : decode cX0_baseFor 14 = .ok (.getfield 44, 3) := by decide +kernel
theorem dX0_baseFor_17 : decode cX0_baseFor 17 = .ok (.iconst 1, 1) := by decide +kernel
theorem dX0_baseFor_18 : decode cX0_baseFor 18 = .ok (.isub, 1) := by decide +kernel
theorem dX0_baseFor_19 : decode cX0_baseFor 19 = .ok (.istore_n 2, 1) := by decide +kernel
theorem dX0_baseFor_20 : decode cX0_baseFor 20 = .ok (.iload_n 1, 1) := by decide +kernel
theorem dX0_baseFor_21 : decode cX0_baseFor 21 = .ok (.iconst 2, 1) := by decide +kernel
theorem dX0_baseFor_22 : decode cX0_baseFor 22 = .ok (.if_icmp .ne 28, 3) := by decide +kernel
theorem dX0_baseFor_25 : decode cX0_baseFor 25 = .ok (.iload_n 2, 1) := by decide +kernel
theorem dX0_baseFor_26 : decode cX0_baseFor 26 = .ok (.ifCond .le 24, 3) := by decide +kernel
theorem dX0_baseFor_29 : decode cX0_baseFor 29 = .ok (.aload_n 0, 1) := by decide +kernel
theorem dX0_baseFor_30 : decode cX0_baseFor 30 = .ok (.getfield 16, 3) := by decide +kernel
theorem dX0_baseFor_33 : decode cX0_baseFor 33 = .ok (.aload_n 0, 1) := by decide +kernel
theorem dX0_baseFor_34 : decode cX0_baseFor 34 = .ok (.getfield 13, 3) := by decide +kernel
theorem dX0_baseFor_37 : decode cX0_baseFor 37 = .ok (.iload_n 2, 1) := by decide +kernel
theorem dX0_baseFor_38 : decode cX0_baseFor 38 = .ok (.iaload, 1) := by decide +kernel
theorem dX0_baseFor_39 : decode cX0_baseFor 39 = .ok (.iaload, 1) := by decide +kernel
theorem dX0_baseFor_40 : decode cX0_baseFor 40 = .ok (.iconst (-1), 1) := by decide +kernel
theorem dX0_baseFor_41 : decode cX0_baseFor 41 = .ok (.if_icmp .eq 9, 3) := by decide +kernel
theorem dX0_baseFor_44 : decode cX0_baseFor 44 = .ok (.iinc 2 (-1), 3) := by decide +kernel
theorem dX0_baseFor_47 : decode cX0_baseFor 47 = .ok (.goto (-22), 3) := by decide +kernel
theorem dX0_baseFor_50 : decode cX0_baseFor 50 = .ok (.aload_n 0, 1) := by decide +kernel
theorem dX0_baseFor_51 : decode cX0_baseFor 51 = .ok (.getfield 13, 3) := by decide +kernel
theorem dX0_baseFor_54 : decode cX0_baseFor 54 = .ok (.iload_n 2, 1) := by decide +kernel
theorem dX0_baseFor_55 : decode cX0_baseFor 55 = .ok (.iaload, 1) := by decide +kernel
theorem dX0_baseFor_56 : decode cX0_baseFor 56 = .ok (.ireturn, 1) := by decide +kernel
abbrev cX0_restore : ByteArray := prog_1_method_8_code
def yX0_restore : MethodName := ⟨RX0, "restore", "(I)I"⟩
theorem dX0_restore_0 : decode cX0_restore 0 = .ok (.aload_n 0, 1) := by decide +kernel
theorem dX0_restore_1 : decode cX0_restore 1 = .ok (.iload_n 1, 1) := by decide +kernel
theorem dX0_restore_2 : decode cX0_restore 2 = .ok (.invokevirtual 75, 3) := by decide +kernel
theorem dX0_restore_5 : decode cX0_restore 5 = .ok (.ifCond .ne 5, 3) := by decide +kernel
theorem dX0_restore_8 : decode cX0_restore 8 = .ok (.iconst (-1), 1) := by decide +kernel
theorem dX0_restore_9 : decode cX0_restore 9 = .ok (.ireturn, 1) := by decide +kernel
theorem dX0_restore_10 : decode cX0_restore 10 = .ok (.iconst 0, 1) := by decide +kernel
theorem dX0_restore_11 : decode cX0_restore 11 = .ok (.istore_n 2, 1) := by decide +kernel
theorem dX0_restore_12 : decode cX0_restore 12 = .ok (.iconst 0, 1) := by decide +kernel
theorem dX0_restore_13 : decode cX0_restore 13 = .ok (.istore_n 3, 1) := by decide +kernel
theorem dX0_restore_14 : decode cX0_restore 14 = .ok (.iload_n 3, 1) := by decide +kernel
theorem dX0_restore_15 : decode cX0_restore 15 = .ok (.bipush 16, 2) := by decide +kernel
theorem dX0_restore_17 : decode cX0_restore 17 = .ok (.if_icmp .ge 23, 3) := by decide +kernel
theorem dX0_restore_20 : decode cX0_restore 20 = .ok (.iload_n 2, 1) := by decide +kernel
theorem dX0_restore_21 : decode cX0_restore 21 = .ok (.aload_n 0, 1) := by decide +kernel
theorem dX0_restore_22 : decode cX0_restore 22 = .ok (.aload_n 0, 1) := by decide +kernel
theorem dX0_restore_23 : decode cX0_restore 23 = .ok (.getfield 13, 3) := by decide +kernel
theorem dX0_restore_26 : decode cX0_restore 26 = .ok (.iload_n 1, 1) := by decide +kernel
theorem dX0_restore_27 : decode cX0_restore 27 = .ok (.iaload, 1) := by decide +kernel
theorem dX0_restore_28 : decode cX0_restore 28 = .ok (.iload_n 3, 1) := by decide +kernel
theorem dX0_restore_29 : decode cX0_restore 29 = .ok (.invokevirtual 78, 3) := by decide +kernel
theorem dX0_restore_32 : decode cX0_restore 32 = .ok (.iadd, 1) := by decide +kernel
theorem dX0_restore_33 : decode cX0_restore 33 = .ok (.istore_n 2, 1) := by decide +kernel
theorem dX0_restore_34 : decode cX0_restore 34 = .ok (.iinc 3 1, 3) := by decide +kernel
theorem dX0_restore_37 : decode cX0_restore 37 = .ok (.goto (-23), 3) := by decide +kernel
theorem dX0_restore_40 : decode cX0_restore 40 = .ok (.iload_n 2, 1) := by decide +kernel
theorem dX0_restore_41 : decode cX0_restore 41 = .ok (.ireturn, 1) := by decide +kernel
abbrev cX0_isPoint : ByteArray := prog_1_method_25_code
def yX0_isPoint : MethodName := ⟨RX0, "isPoint", "(I)Z"⟩
theorem dX0_isPoint_0 : decode cX0_isPoint 0 = .ok (.iload_n 1, 1) := by decide +kernel
theorem dX0_isPoint_1 : decode cX0_isPoint 1 = .ok (.ifCond .lt 15, 3) := by decide +kernel
theorem dX0_isPoint_4 : decode cX0_isPoint 4 = .ok (.iload_n 1, 1) := by decide +kernel
theorem dX0_isPoint_5 : decode cX0_isPoint 5 = .ok (.aload_n 0, 1) := by decide +kernel
theorem dX0_isPoint_6 : decode cX0_isPoint 6 = .ok (.getfield 44, 3) := by decide +kernel
theorem dX0_isPoint_9 : decode cX0_isPoint 9 = .ok (.if_icmp .ge 7, 3) := by decide +kernel
theorem dX0_isPoint_12 : decode cX0_isPoint 12 = .ok (.iconst 1, 1) := by decide +kernel
theorem dX0_isPoint_13 : decode cX0_isPoint 13 = .ok (.goto 4, 3) := by decide +kernel
theorem dX0_isPoint_16 : decode cX0_isPoint 16 = .ok (.iconst 0, 1) := by decide +kernel
theorem dX0_isPoint_17 : decode cX0_isPoint 17 = .ok (.ireturn, 1) := by decide +kernel
abbrev cX0_bring : ByteArray := prog_1_method_32_code
def yX0_bring : MethodName := ⟨RX0, "bring", "(II)I"⟩
theorem dX0_bring_0 : decode cX0_bring 0 = .ok (.aload_n 0, 1) := by decide +kernel
theorem dX0_bring_1 : decode cX0_bring 1 = .ok (.getfield 35, 3) := by decide +kernel
theorem dX0_bring_4 : decode cX0_bring 4 = .ok (.iload_n 1, 1) := by decide +kernel
theorem dX0_bring_5 : decode cX0_bring 5 = .ok (.iaload, 1) := by decide +kernel
theorem dX0_bring_6 : decode cX0_bring 6 = .ok (.iload_n 2, 1) := by decide +kernel
theorem dX0_bring_7 : decode cX0_bring 7 = .ok (.invokestatic 59, 3) := by decide +kernel
theorem dX0_bring_10 : decode cX0_bring 10 = .ok (.ifCond .eq 12, 3) := by decide +kernel
theorem dX0_bring_13 : decode cX0_bring 13 = .ok (.aload_n 0, 1) := by decide +kernel
theorem dX0_bring_14 : decode cX0_bring 14 = .ok (.iload_n 1, 1) := by decide +kernel
theorem dX0_bring_15 : decode cX0_bring 15 = .ok (.iload_n 2, 1) := by decide +kernel
theorem dX0_bring_16 : decode cX0_bring 16 = .ok (.invokevirtual 97, 3) := by decide +kernel
theorem dX0_bring_19 : decode cX0_bring 19 = .ok (.ifCond .eq 5, 3) := by decide +kernel
theorem dX0_bring_22 : decode cX0_bring 22 = .ok (.iconst 0, 1) := by decide +kernel
theorem dX0_bring_23 : decode cX0_bring 23 = .ok (.ireturn, 1) := by decide +kernel
theorem dX0_bring_24 : decode cX0_bring 24 = .ok (.aload_n 0, 1) := by decide +kernel
theorem dX0_bring_25 : decode cX0_bring 25 = .ok (.iload_n 1, 1) := by decide +kernel
theorem dX0_bring_26 : decode cX0_bring 26 = .ok (.iload_n 2, 1) := by decide +kernel
theorem dX0_bring_27 : decode cX0_bring 27 = .ok (.invokevirtual 90, 3) := by decide +kernel
theorem dX0_bring_30 : decode cX0_bring 30 = .ok (.istore_n 3, 1) := by decide +kernel
theorem dX0_bring_31 : decode cX0_bring 31 = .ok (.aload_n 0, 1) := by decide +kernel
theorem dX0_bring_32 : decode cX0_bring 32 = .ok (.iload_n 2, 1) := by decide +kernel
theorem dX0_bring_33 : decode cX0_bring 33 = .ok (.aload_n 0, 1) := by decide +kernel
theorem dX0_bring_34 : decode cX0_bring 34 = .ok (.getfield 22, 3) := by decide +kernel
theorem dX0_bring_37 : decode cX0_bring 37 = .ok (.iload_n 3, 1) := by decide +kernel
theorem dX0_bring_38 : decode cX0_bring 38 = .ok (.iaload, 1) := by decide +kernel
theorem dX0_bring_39 : decode cX0_bring 39 = .ok (.iload_n 2, 1) := by decide +kernel
theorem dX0_bring_40 : decode cX0_bring 40 = .ok (.invokestatic 59, 3) := by decide +kernel
theorem dX0_bring_43 : decode cX0_bring 43 = .ok (.aload_n 0, 1) := by decide +kernel
theorem dX0_bring_44 : decode cX0_bring 44 = .ok (.getfield 25, 3) := by decide +kernel
theorem dX0_bring_47 : decode cX0_bring 47 = .ok (.bipush 16, 2) := by decide +kernel
theorem dX0_bring_49 : decode cX0_bring 49 = .ok (.iload_n 3, 1) := by decide +kernel
theorem dX0_bring_50 : decode cX0_bring 50 = .ok (.imul, 1) := by decide +kernel
theorem dX0_bring_51 : decode cX0_bring 51 = .ok (.iload_n 2, 1) := by decide +kernel
theorem dX0_bring_52 : decode cX0_bring 52 = .ok (.iadd, 1) := by decide +kernel
theorem dX0_bring_53 : decode cX0_bring 53 = .ok (.iaload, 1) := by decide +kernel
theorem dX0_bring_54 : decode cX0_bring 54 = .ok (.invokevirtual 55, 3) := by decide +kernel
theorem dX0_bring_57 : decode cX0_bring 57 = .ok (.iconst 1, 1) := by decide +kernel
theorem dX0_bring_58 : decode cX0_bring 58 = .ok (.ireturn, 1) := by decide +kernel
abbrev cX0_isLive : ByteArray := prog_1_method_31_code
def yX0_isLive : MethodName := ⟨RX0, "isLive", "(II)Z"⟩
theorem dX0_isLive_0 : decode cX0_isLive 0 = .ok (.aload_n 0, 1) := by decide +kernel
theorem dX0_isLive_1 : decode cX0_isLive 1 = .ok (.iload_n 1, 1) := by decide +kernel
theorem dX0_isLive_2 : decode cX0_isLive 2 = .ok (.iload_n 2, 1) := by decide +kernel
theorem dX0_isLive_3 : decode cX0_isLive 3 = .ok (.invokevirtual 90, 3) := by decide +kernel
theorem dX0_isLive_6 : decode cX0_isLive 6 = .ok (.istore_n 3, 1) := by decide +kernel
theorem dX0_isLive_7 : decode cX0_isLive 7 = .ok (.aload_n 0, 1) := by decide +kernel
theorem dX0_isLive_8 : decode cX0_isLive 8 = .ok (.getfield 22, 3) := by decide +kernel
theorem dX0_isLive_11 : decode cX0_isLive 11 = .ok (.iload_n 3, 1) := by decide +kernel
theorem dX0_isLive_12 : decode cX0_isLive 12 = .ok (.iaload, 1) := by decide +kernel
theorem dX0_isLive_13 : decode cX0_isLive 13 = .ok (.iload_n 2, 1) := by decide +kernel
theorem dX0_isLive_14 : decode cX0_isLive 14 = .ok (.invokestatic 59, 3) := by decide +kernel
theorem dX0_isLive_17 : decode cX0_isLive 17 = .ok (.aload_n 0, 1) := by decide +kernel
theorem dX0_isLive_18 : decode cX0_isLive 18 = .ok (.getfield 52, 3) := by decide +kernel
theorem dX0_isLive_21 : decode cX0_isLive 21 = .ok (.iload_n 2, 1) := by decide +kernel
theorem dX0_isLive_22 : decode cX0_isLive 22 = .ok (.invokestatic 59, 3) := by decide +kernel
theorem dX0_isLive_25 : decode cX0_isLive 25 = .ok (.if_icmp .eq 5, 3) := by decide +kernel
theorem dX0_isLive_28 : decode cX0_isLive 28 = .ok (.iconst 0, 1) := by decide +kernel
theorem dX0_isLive_29 : decode cX0_isLive 29 = .ok (.ireturn, 1) := by decide +kernel
theorem dX0_isLive_30 : decode cX0_isLive 30 = .ok (.aload_n 0, 1) := by decide +kernel
theorem dX0_isLive_31 : decode cX0_isLive 31 = .ok (.getfield 52, 3) := by decide +kernel
theorem dX0_isLive_34 : decode cX0_isLive 34 = .ok (.iload_n 2, 1) := by decide +kernel
theorem dX0_isLive_35 : decode cX0_isLive 35 = .ok (.invokestatic 59, 3) := by decide +kernel
theorem dX0_isLive_38 : decode cX0_isLive 38 = .ok (.ifCond .eq 23, 3) := by decide +kernel
theorem dX0_isLive_41 : decode cX0_isLive 41 = .ok (.aload_n 0, 1) := by decide +kernel
theorem dX0_isLive_42 : decode cX0_isLive 42 = .ok (.getfield 25, 3) := by decide +kernel
theorem dX0_isLive_45 : decode cX0_isLive 45 = .ok (.bipush 16, 2) := by decide +kernel
theorem dX0_isLive_47 : decode cX0_isLive 47 = .ok (.iload_n 3, 1) := by decide +kernel
theorem dX0_isLive_48 : decode cX0_isLive 48 = .ok (.imul, 1) := by decide +kernel
theorem dX0_isLive_49 : decode cX0_isLive 49 = .ok (.iload_n 2, 1) := by decide +kernel
theorem dX0_isLive_50 : decode cX0_isLive 50 = .ok (.iadd, 1) := by decide +kernel
theorem dX0_isLive_51 : decode cX0_isLive 51 = .ok (.iaload, 1) := by decide +kernel
theorem dX0_isLive_52 : decode cX0_isLive 52 = .ok (.aload_n 0, 1) := by decide +kernel
theorem dX0_isLive_53 : decode cX0_isLive 53 = .ok (.getfield 7, 3) := by decide +kernel
theorem dX0_isLive_56 : decode cX0_isLive 56 = .ok (.iload_n 2, 1) := by decide +kernel
theorem dX0_isLive_57 : decode cX0_isLive 57 = .ok (.iaload, 1) := by decide +kernel
theorem dX0_isLive_58 : decode cX0_isLive 58 = .ok (.if_icmp .ne 7, 3) := by decide +kernel
theorem dX0_isLive_61 : decode cX0_isLive 61 = .ok (.iconst 1, 1) := by decide +kernel
theorem dX0_isLive_62 : decode cX0_isLive 62 = .ok (.goto 4, 3) := by decide +kernel
theorem dX0_isLive_65 : decode cX0_isLive 65 = .ok (.iconst 0, 1) := by decide +kernel
theorem dX0_isLive_66 : decode cX0_isLive 66 = .ok (.ireturn, 1) := by decide +kernel
abbrev cX0_holder : ByteArray := prog_1_method_30_code
def yX0_holder : MethodName := ⟨RX0, "holder", "(II)I"⟩
theorem dX0_holder_0 : decode cX0_holder 0 = .ok (.iload_n 1, 1) := by decide +kernel
theorem dX0_holder_1 : decode cX0_holder 1 = .ok (.istore_n 3, 1) := by decide +kernel
theorem dX0_holder_2 : decode cX0_holder 2 = .ok (.iconst 0, 1) := by decide +kernel
theorem dX0_holder_3 : decode cX0_holder 3 = .ok (.istore 4, 2) := by decide +kernel
theorem dX0_holder_5 : decode cX0_holder 5 = .ok (.iload 4, 2) := by decide +kernel
theorem dX0_holder_7 : decode cX0_holder 7 = .ok (.bipush 14, 2) := by decide +kernel
theorem dX0_holder_9 : decode cX0_holder 9 = .ok (.if_icmp .ge 42, 3) := by decide +kernel
theorem dX0_holder_12 : decode cX0_holder 12 = .ok (.aload_n 0, 1) := by decide +kernel
theorem dX0_holder_13 : decode cX0_holder 13 = .ok (.getfield 19, 3) := by decide +kernel
theorem dX0_holder_16 : decode cX0_holder 16 = .ok (.iload_n 3, 1) := by decide +kernel
theorem dX0_holder_17 : decode cX0_holder 17 = .ok (.iaload, 1) := by decide +kernel
theorem dX0_holder_18 : decode cX0_holder 18 = .ok (.iload_n 2, 1) := by decide +kernel
theorem dX0_holder_19 : decode cX0_holder 19 = .ok (.invokestatic 59, 3) := by decide +kernel
theorem dX0_holder_22 : decode cX0_holder 22 = .ok (.ifCond .ne 29, 3) := by decide +kernel
theorem dX0_holder_25 : decode cX0_holder 25 = .ok (.aload_n 0, 1) := by decide +kernel
theorem dX0_holder_26 : decode cX0_holder 26 = .ok (.getfield 16, 3) := by decide +kernel
theorem dX0_holder_29 : decode cX0_holder 29 = .ok (.iload_n 3, 1) := by decide +kernel
theorem dX0_holder_30 : decode cX0_holder 30 = .ok (.iaload, 1) := by decide +kernel
theorem dX0_holder_31 : decode cX0_holder 31 = .ok (.iconst (-1), 1) := by decide +kernel
theorem dX0_holder_32 : decode cX0_holder 32 = .ok (.if_icmp .ne 6, 3) := by decide +kernel
theorem dX0_holder_35 : decode cX0_holder 35 = .ok (.goto 16, 3) := by decide +kernel
theorem dX0_holder_38 : decode cX0_holder 38 = .ok (.aload_n 0, 1) := by decide +kernel
theorem dX0_holder_39 : decode cX0_holder 39 = .ok (.getfield 16, 3) := by decide +kernel
theorem dX0_holder_42 : decode cX0_holder 42 = .ok (.iload_n 3, 1) := by decide +kernel
theorem dX0_holder_43 : decode cX0_holder 43 = .ok (.iaload, 1) := by decide +kernel
theorem dX0_holder_44 : decode cX0_holder 44 = .ok (.istore_n 3, 1) := by decide +kernel
theorem dX0_holder_45 : decode cX0_holder 45 = .ok (.iinc 4 1, 3) := by decide +kernel
theorem dX0_holder_48 : decode cX0_holder 48 = .ok (.goto (-43), 3) := by decide +kernel
theorem dX0_holder_51 : decode cX0_holder 51 = .ok (.iload_n 3, 1) := by decide +kernel
theorem dX0_holder_52 : decode cX0_holder 52 = .ok (.ireturn, 1) := by decide +kernel
abbrev cX0_restoreFile : ByteArray := prog_1_method_9_code
def yX0_restoreFile : MethodName := ⟨RX0, "restoreFile", "(II)I"⟩
theorem dX0_restoreFile_0 : decode cX0_restoreFile 0 = .ok (.aload_n 0, 1) := by decide +kernel
theorem dX0_restoreFile_1 : decode cX0_restoreFile 1 = .ok (.iload_n 1, 1) := by decide +kernel
theorem dX0_restoreFile_2 : decode cX0_restoreFile 2 = .ok (.invokevirtual 75, 3) := by decide +kernel
theorem dX0_restoreFile_5 : decode cX0_restoreFile 5 = .ok (.ifCond .ne 5, 3) := by decide +kernel
theorem dX0_restoreFile_8 : decode cX0_restoreFile 8 = .ok (.iconst (-1), 1) := by decide +kernel
theorem dX0_restoreFile_9 : decode cX0_restoreFile 9 = .ok (.ireturn, 1) := by decide +kernel
theorem dX0_restoreFile_10 : decode cX0_restoreFile 10 = .ok (.iload_n 2, 1) := by decide +kernel
theorem dX0_restoreFile_11 : decode cX0_restoreFile 11 = .ok (.invokestatic 48, 3) := by decide +kernel
theorem dX0_restoreFile_14 : decode cX0_restoreFile 14 = .ok (.ifCond .eq 17, 3) := by decide +kernel
theorem dX0_restoreFile_17 : decode cX0_restoreFile 17 = .ok (.aload_n 0, 1) := by decide +kernel
theorem dX0_restoreFile_18 : decode cX0_restoreFile 18 = .ok (.aload_n 0, 1) := by decide +kernel
theorem dX0_restoreFile_19 : decode cX0_restoreFile 19 = .ok (.getfield 13, 3) := by decide +kernel
theorem dX0_restoreFile_22 : decode cX0_restoreFile 22 = .ok (.iload_n 1, 1) := by decide +kernel
theorem dX0_restoreFile_23 : decode cX0_restoreFile 23 = .ok (.iaload, 1) := by decide +kernel
theorem dX0_restoreFile_24 : decode cX0_restoreFile 24 = .ok (.iload_n 2, 1) := by decide +kernel
theorem dX0_restoreFile_25 : decode cX0_restoreFile 25 = .ok (.invokevirtual 78, 3) := by decide +kernel
theorem dX0_restoreFile_28 : decode cX0_restoreFile 28 = .ok (.goto 5, 3) := by decide +kernel
theorem dX0_restoreFile_31 : decode cX0_restoreFile 31 = .ok (.bipush (-2), 2) := by decide +kernel
theorem dX0_restoreFile_33 : decode cX0_restoreFile 33 = .ok (.ireturn, 1) := by decide +kernel
abbrev cX0_pin : ByteArray := prog_1_method_10_code
def yX0_pin : MethodName := ⟨RX0, "pin", "(II)I"⟩
theorem dX0_pin_0 : decode cX0_pin 0 = .ok (.aload_n 0, 1) := by decide +kernel
theorem dX0_pin_1 : decode cX0_pin 1 = .ok (.iload_n 1, 1) := by decide +kernel
theorem dX0_pin_2 : decode cX0_pin 2 = .ok (.invokevirtual 75, 3) := by decide +kernel
theorem dX0_pin_5 : decode cX0_pin 5 = .ok (.ifCond .ne 5, 3) := by decide +kernel
theorem dX0_pin_8 : decode cX0_pin 8 = .ok (.iconst (-1), 1) := by decide +kernel
theorem dX0_pin_9 : decode cX0_pin 9 = .ok (.ireturn, 1) := by decide +kernel
theorem dX0_pin_10 : decode cX0_pin 10 = .ok (.aload_n 0, 1) := by decide +kernel
theorem dX0_pin_11 : decode cX0_pin 11 = .ok (.getfield 31, 3) := by decide +kernel
theorem dX0_pin_14 : decode cX0_pin 14 = .ok (.aload_n 0, 1) := by decide +kernel
theorem dX0_pin_15 : decode cX0_pin 15 = .ok (.getfield 13, 3) := by decide +kernel
theorem dX0_pin_18 : decode cX0_pin 18 = .ok (.iload_n 1, 1) := by decide +kernel
theorem dX0_pin_19 : decode cX0_pin 19 = .ok (.iaload, 1) := by decide +kernel
theorem dX0_pin_20 : decode cX0_pin 20 = .ok (.baload, 1) := by decide +kernel
theorem dX0_pin_21 : decode cX0_pin 21 = .ok (.ifCond .eq 7, 3) := by decide +kernel
theorem dX0_pin_24 : decode cX0_pin 24 = .ok (.iconst 1, 1) := by decide +kernel
theorem dX0_pin_25 : decode cX0_pin 25 = .ok (.goto 4, 3) := by decide +kernel
theorem dX0_pin_28 : decode cX0_pin 28 = .ok (.iconst 0, 1) := by decide +kernel
theorem dX0_pin_29 : decode cX0_pin 29 = .ok (.istore_n 3, 1) := by decide +kernel
theorem dX0_pin_30 : decode cX0_pin 30 = .ok (.aload_n 0, 1) := by decide +kernel
theorem dX0_pin_31 : decode cX0_pin 31 = .ok (.getfield 31, 3) := by decide +kernel
theorem dX0_pin_34 : decode cX0_pin 34 = .ok (.aload_n 0, 1) := by decide +kernel
theorem dX0_pin_35 : decode cX0_pin 35 = .ok (.getfield 13, 3) := by decide +kernel
theorem dX0_pin_38 : decode cX0_pin 38 = .ok (.iload_n 1, 1) := by decide +kernel
theorem dX0_pin_39 : decode cX0_pin 39 = .ok (.iaload, 1) := by decide +kernel
theorem dX0_pin_40 : decode cX0_pin 40 = .ok (.iload_n 2, 1) := by decide +kernel
theorem dX0_pin_41 : decode cX0_pin 41 = .ok (.ifCond .eq 7, 3) := by decide +kernel
theorem dX0_pin_44 : decode cX0_pin 44 = .ok (.iconst 1, 1) := by decide +kernel
theorem dX0_pin_45 : decode cX0_pin 45 = .ok (.goto 4, 3) := by decide +kernel
theorem dX0_pin_48 : decode cX0_pin 48 = .ok (.iconst 0, 1) := by decide +kernel
theorem dX0_pin_49 : decode cX0_pin 49 = .ok (.bastore, 1) := by decide +kernel
theorem dX0_pin_50 : decode cX0_pin 50 = .ok (.iload_n 3, 1) := by decide +kernel
theorem dX0_pin_51 : decode cX0_pin 51 = .ok (.ireturn, 1) := by decide +kernel
abbrev cX0_forget : ByteArray := prog_1_method_11_code
def yX0_forget : MethodName := ⟨RX0, "forget", "(I)I"⟩
theorem dX0_forget_0 : decode cX0_forget 0 = .ok (.aload_n 0, 1) := by decide +kernel
theorem dX0_forget_1 : decode cX0_forget 1 = .ok (.iload_n 1, 1) := by decide +kernel
theorem dX0_forget_2 : decode cX0_forget 2 = .ok (.invokevirtual 75, 3) := by decide +kernel
theorem dX0_forget_5 : decode cX0_forget 5 = .ok (.ifCond .ne 5, 3) := by decide +kernel
theorem dX0_forget_8 : decode cX0_forget 8 = .ok (.iconst (-1), 1) := by decide +kernel
theorem dX0_forget_9 : decode cX0_forget 9 = .ok (.ireturn, 1) := by decide +kernel
theorem dX0_forget_10 : decode cX0_forget 10 = .ok (.aload_n 0, 1) := by decide +kernel
theorem dX0_forget_11 : decode cX0_forget 11 = .ok (.getfield 31, 3) := by decide +kernel
theorem dX0_forget_14 : decode cX0_forget 14 = .ok (.aload_n 0, 1) := by decide +kernel
theorem dX0_forget_15 : decode cX0_forget 15 = .ok (.getfield 13, 3) := by decide +kernel
theorem dX0_forget_18 : decode cX0_forget 18 = .ok (.iload_n 1, 1) := by decide +kernel
theorem dX0_forget_19 : decode cX0_forget 19 = .ok (.iaload, 1) := by decide +kernel
theorem dX0_forget_20 : decode cX0_forget 20 = .ok (.baload, 1) := by decide +kernel
theorem dX0_forget_21 : decode cX0_forget 21 = .ok (.ifCond .eq 6, 3) := by decide +kernel
theorem dX0_forget_24 : decode cX0_forget 24 = .ok (.bipush (-2), 2) := by decide +kernel
theorem dX0_forget_26 : decode cX0_forget 26 = .ok (.ireturn, 1) := by decide +kernel
theorem dX0_forget_27 : decode cX0_forget 27 = .ok (.aload_n 0, 1) := by decide +kernel
theorem dX0_forget_28 : decode cX0_forget 28 = .ok (.iload_n 1, 1) := by decide +kernel
theorem dX0_forget_29 : decode cX0_forget 29 = .ok (.invokevirtual 82, 3) := by decide +kernel
theorem dX0_forget_32 : decode cX0_forget 32 = .ok (.aload_n 0, 1) := by decide +kernel
theorem dX0_forget_33 : decode cX0_forget 33 = .ok (.getfield 44, 3) := by decide +kernel
theorem dX0_forget_36 : decode cX0_forget 36 = .ok (.ireturn, 1) := by decide +kernel
abbrev cX0_drop : ByteArray := prog_1_method_34_code
def yX0_drop : MethodName := ⟨RX0, "drop", "(I)V"⟩
theorem dX0_drop_0 : decode cX0_drop 0 = .ok (.aload_n 0, 1) := by decide +kernel
theorem dX0_drop_1 : decode cX0_drop 1 = .ok (.getfield 13, 3) := by decide +kernel
theorem dX0_drop_4 : decode cX0_drop 4 = .ok (.iload_n 1, 1) := by decide +kernel
theorem dX0_drop_5 : decode cX0_drop 5 = .ok (.iaload, 1) := by decide +kernel
theorem dX0_drop_6 : decode cX0_drop 6 = .ok (.istore_n 2, 1) := by decide +kernel
theorem dX0_drop_7 : decode cX0_drop 7 = .ok (.iconst 0, 1) := by decide +kernel
theorem dX0_drop_8 : decode cX0_drop 8 = .ok (.istore_n 3, 1) := by decide +kernel
theorem dX0_drop_9 : decode cX0_drop 9 = .ok (.iload_n 3, 1) := by decide +kernel
theorem dX0_drop_10 : decode cX0_drop 10 = .ok (.bipush 14, 2) := by decide +kernel
theorem dX0_drop_12 : decode cX0_drop 12 = .ok (.if_icmp .ge 148, 3) := by decide +kernel
theorem dX0_drop_15 : decode cX0_drop 15 = .ok (.aload_n 0, 1) := by decide +kernel
theorem dX0_drop_16 : decode cX0_drop 16 = .ok (.getfield 38, 3) := by decide +kernel
theorem dX0_drop_19 : decode cX0_drop 19 = .ok (.iload_n 3, 1) := by decide +kernel
theorem dX0_drop_20 : decode cX0_drop 20 = .ok (.baload, 1) := by decide +kernel
theorem dX0_drop_21 : decode cX0_drop 21 = .ok (.ifCond .eq 133, 3) := by decide +kernel
theorem dX0_drop_24 : decode cX0_drop 24 = .ok (.aload_n 0, 1) := by decide +kernel
theorem dX0_drop_25 : decode cX0_drop 25 = .ok (.getfield 16, 3) := by decide +kernel
theorem dX0_drop_28 : decode cX0_drop 28 = .ok (.iload_n 3, 1) := by decide +kernel
theorem dX0_drop_29 : decode cX0_drop 29 = .ok (.iaload, 1) := by decide +kernel
theorem dX0_drop_30 : decode cX0_drop 30 = .ok (.iload_n 2, 1) := by decide +kernel
theorem dX0_drop_31 : decode cX0_drop 31 = .ok (.if_icmp .ne 123, 3) := by decide +kernel
theorem dX0_drop_34 : decode cX0_drop 34 = .ok (.aload_n 0, 1) := by decide +kernel
theorem dX0_drop_35 : decode cX0_drop 35 = .ok (.getfield 19, 3) := by decide +kernel
theorem dX0_drop_38 : decode cX0_drop 38 = .ok (.iload_n 2, 1) := by decide +kernel
theorem dX0_drop_39 : decode cX0_drop 39 = .ok (.iaload, 1) := by decide +kernel
theorem dX0_drop_40 : decode cX0_drop 40 = .ok (.aload_n 0, 1) := by decide +kernel
theorem dX0_drop_41 : decode cX0_drop 41 = .ok (.getfield 19, 3) := by decide +kernel
theorem dX0_drop_44 : decode cX0_drop 44 = .ok (.iload_n 3, 1) := by decide +kernel
theorem dX0_drop_45 : decode cX0_drop 45 = .ok (.iaload, 1) := by decide +kernel
theorem dX0_drop_46 : decode cX0_drop 46 = .ok (.iconst (-1), 1) := by decide +kernel
theorem dX0_drop_47 : decode cX0_drop 47 = .ok (.ixor, 1) := by decide +kernel
theorem dX0_drop_48 : decode cX0_drop 48 = .ok (.iand, 1) := by decide +kernel
theorem dX0_drop_49 : decode cX0_drop 49 = .ok (.istore 4, 2) := by decide +kernel
theorem dX0_drop_51 : decode cX0_drop 51 = .ok (.iconst 0, 1) := by decide +kernel
theorem dX0_drop_52 : decode cX0_drop 52 = .ok (.istore 5, 2) := by decide +kernel
theorem dX0_drop_54 : decode cX0_drop 54 = .ok (.iload 5, 2) := by decide +kernel
theorem dX0_drop_56 : decode cX0_drop 56 = .ok (.bipush 16, 2) := by decide +kernel
theorem dX0_drop_58 : decode cX0_drop 58 = .ok (.if_icmp .ge 43, 3) := by decide +kernel
theorem dX0_drop_61 : decode cX0_drop 61 = .ok (.iload 4, 2) := by decide +kernel
theorem dX0_drop_63 : decode cX0_drop 63 = .ok (.iload 5, 2) := by decide +kernel
theorem dX0_drop_65 : decode cX0_drop 65 = .ok (.invokestatic 59, 3) := by decide +kernel
theorem dX0_drop_68 : decode cX0_drop 68 = .ok (.ifCond .eq 27, 3) := by decide +kernel
theorem dX0_drop_71 : decode cX0_drop 71 = .ok (.aload_n 0, 1) := by decide +kernel
theorem dX0_drop_72 : decode cX0_drop 72 = .ok (.getfield 25, 3) := by decide +kernel
theorem dX0_drop_75 : decode cX0_drop 75 = .ok (.bipush 16, 2) := by decide +kernel
theorem dX0_drop_77 : decode cX0_drop 77 = .ok (.iload_n 3, 1) := by decide +kernel
theorem dX0_drop_78 : decode cX0_drop 78 = .ok (.imul, 1) := by decide +kernel
theorem dX0_drop_79 : decode cX0_drop 79 = .ok (.iload 5, 2) := by decide +kernel
theorem dX0_drop_81 : decode cX0_drop 81 = .ok (.iadd, 1) := by decide +kernel
theorem dX0_drop_82 : decode cX0_drop 82 = .ok (.aload_n 0, 1) := by decide +kernel
theorem dX0_drop_83 : decode cX0_drop 83 = .ok (.getfield 25, 3) := by decide +kernel
theorem dX0_drop_86 : decode cX0_drop 86 = .ok (.bipush 16, 2) := by decide +kernel
theorem dX0_drop_88 : decode cX0_drop 88 = .ok (.iload_n 2, 1) := by decide +kernel
theorem dX0_drop_89 : decode cX0_drop 89 = .ok (.imul, 1) := by decide +kernel
theorem dX0_drop_90 : decode cX0_drop 90 = .ok (.iload 5, 2) := by decide +kernel
theorem dX0_drop_92 : decode cX0_drop 92 = .ok (.iadd, 1) := by decide +kernel
theorem dX0_drop_93 : decode cX0_drop 93 = .ok (.iaload, 1) := by decide +kernel
theorem dX0_drop_94 : decode cX0_drop 94 = .ok (.iastore, 1) := by decide +kernel
theorem dX0_drop_95 : decode cX0_drop 95 = .ok (.iinc 5 1, 3) := by decide +kernel
theorem dX0_drop_98 : decode cX0_drop 98 = .ok (.goto (-44), 3) := by decide +kernel
theorem dX0_drop_101 : decode cX0_drop 101 = .ok (.aload_n 0, 1) := by decide +kernel
theorem dX0_drop_102 : decode cX0_drop 102 = .ok (.getfield 22, 3) := by decide +kernel
theorem dX0_drop_105 : decode cX0_drop 105 = .ok (.iload_n 3, 1) := by decide +kernel
theorem dX0_drop_106 : decode cX0_drop 106 = .ok (.aload_n 0, 1) := by decide +kernel
theorem dX0_drop_107 : decode cX0_drop 107 = .ok (.getfield 22, 3) := by decide +kernel
theorem dX0_drop_110 : decode cX0_drop 110 = .ok (.iload_n 3, 1) := by decide +kernel
theorem dX0_drop_111 : decode cX0_drop 111 = .ok (.iaload, 1) := by decide +kernel
theorem dX0_drop_112 : decode cX0_drop 112 = .ok (.aload_n 0, 1) := by decide +kernel
theorem dX0_drop_113 : decode cX0_drop 113 = .ok (.getfield 22, 3) := by decide +kernel
theorem dX0_drop_116 : decode cX0_drop 116 = .ok (.iload_n 2, 1) := by decide +kernel
theorem dX0_drop_117 : decode cX0_drop 117 = .ok (.iaload, 1) := by decide +kernel
theorem dX0_drop_118 : decode cX0_drop 118 = .ok (.iload 4, 2) := by decide +kernel
theorem dX0_drop_120 : decode cX0_drop 120 = .ok (.iand, 1) := by decide +kernel
theorem dX0_drop_121 : decode cX0_drop 121 = .ok (.ior, 1) := by decide +kernel
theorem dX0_drop_122 : decode cX0_drop 122 = .ok (.iastore, 1) := by decide +kernel
theorem dX0_drop_123 : decode cX0_drop 123 = .ok (.aload_n 0, 1) := by decide +kernel
theorem dX0_drop_124 : decode cX0_drop 124 = .ok (.getfield 19, 3) := by decide +kernel
theorem dX0_drop_127 : decode cX0_drop 127 = .ok (.iload_n 3, 1) := by decide +kernel
theorem dX0_drop_128 : decode cX0_drop 128 = .ok (.aload_n 0, 1) := by decide +kernel
theorem dX0_drop_129 : decode cX0_drop 129 = .ok (.getfield 19, 3) := by decide +kernel
theorem dX0_drop_132 : decode cX0_drop 132 = .ok (.iload_n 3, 1) := by decide +kernel
theorem dX0_drop_133 : decode cX0_drop 133 = .ok (.iaload, 1) := by decide +kernel
theorem dX0_drop_134 : decode cX0_drop 134 = .ok (.aload_n 0, 1) := by decide +kernel
theorem dX0_drop_135 : decode cX0_drop 135 = .ok (.getfield 19, 3) := by decide +kernel
theorem dX0_drop_138 : decode cX0_drop 138 = .ok (.iload_n 2, 1) := by decide +kernel
theorem dX0_drop_139 : decode cX0_drop 139 = .ok (.iaload, 1) := by decide +kernel
theorem dX0_drop_140 : decode cX0_drop 140 = .ok (.ior, 1) := by decide +kernel
theorem dX0_drop_141 : decode cX0_drop 141 = .ok (.iastore, 1) := by decide +kernel
theorem dX0_drop_142 : decode cX0_drop 142 = .ok (.aload_n 0, 1) := by decide +kernel
theorem dX0_drop_143 : decode cX0_drop 143 = .ok (.getfield 16, 3) := by decide +kernel
theorem dX0_drop_146 : decode cX0_drop 146 = .ok (.iload_n 3, 1) := by decide +kernel
theorem dX0_drop_147 : decode cX0_drop 147 = .ok (.aload_n 0, 1) := by decide +kernel
theorem dX0_drop_148 : decode cX0_drop 148 = .ok (.getfield 16, 3) := by decide +kernel
theorem dX0_drop_151 : decode cX0_drop 151 = .ok (.iload_n 2, 1) := by decide +kernel
theorem dX0_drop_152 : decode cX0_drop 152 = .ok (.iaload, 1) := by decide +kernel
theorem dX0_drop_153 : decode cX0_drop 153 = .ok (.iastore, 1) := by decide +kernel
theorem dX0_drop_154 : decode cX0_drop 154 = .ok (.iinc 3 1, 3) := by decide +kernel
theorem dX0_drop_157 : decode cX0_drop 157 = .ok (.goto (-148), 3) := by decide +kernel
theorem dX0_drop_160 : decode cX0_drop 160 = .ok (.aload_n 0, 1) := by decide +kernel
theorem dX0_drop_161 : decode cX0_drop 161 = .ok (.getfield 38, 3) := by decide +kernel
theorem dX0_drop_164 : decode cX0_drop 164 = .ok (.iload_n 2, 1) := by decide +kernel
theorem dX0_drop_165 : decode cX0_drop 165 = .ok (.iconst 0, 1) := by decide +kernel
theorem dX0_drop_166 : decode cX0_drop 166 = .ok (.bastore, 1) := by decide +kernel
theorem dX0_drop_167 : decode cX0_drop 167 = .ok (.iload_n 1, 1) := by decide +kernel
theorem dX0_drop_168 : decode cX0_drop 168 = .ok (.iconst 1, 1) := by decide +kernel
theorem dX0_drop_169 : decode cX0_drop 169 = .ok (.iadd, 1) := by decide +kernel
theorem dX0_drop_170 : decode cX0_drop 170 = .ok (.istore_n 3, 1) := by decide +kernel
theorem dX0_drop_171 : decode cX0_drop 171 = .ok (.iload_n 3, 1) := by decide +kernel
theorem dX0_drop_172 : decode cX0_drop 172 = .ok (.aload_n 0, 1) := by decide +kernel
theorem dX0_drop_173 : decode cX0_drop 173 = .ok (.getfield 44, 3) := by decide +kernel
theorem dX0_drop_176 : decode cX0_drop 176 = .ok (.if_icmp .ge 23, 3) := by decide +kernel
theorem dX0_drop_179 : decode cX0_drop 179 = .ok (.aload_n 0, 1) := by decide +kernel
theorem dX0_drop_180 : decode cX0_drop 180 = .ok (.getfield 13, 3) := by decide +kernel
theorem dX0_drop_183 : decode cX0_drop 183 = .ok (.iload_n 3, 1) := by decide +kernel
theorem dX0_drop_184 : decode cX0_drop 184 = .ok (.iconst 1, 1) := by decide +kernel
theorem dX0_drop_185 : decode cX0_drop 185 = .ok (.isub, 1) := by decide +kernel
theorem dX0_drop_186 : decode cX0_drop 186 = .ok (.aload_n 0, 1) := by decide +kernel
theorem dX0_drop_187 : decode cX0_drop 187 = .ok (.getfield 13, 3) := by decide +kernel
theorem dX0_drop_190 : decode cX0_drop 190 = .ok (.iload_n 3, 1) := by decide +kernel
theorem dX0_drop_191 : decode cX0_drop 191 = .ok (.iaload, 1) := by decide +kernel
theorem dX0_drop_192 : decode cX0_drop 192 = .ok (.iastore, 1) := by decide +kernel
theorem dX0_drop_193 : decode cX0_drop 193 = .ok (.iinc 3 1, 3) := by decide +kernel
theorem dX0_drop_196 : decode cX0_drop 196 = .ok (.goto (-25), 3) := by decide +kernel
theorem dX0_drop_199 : decode cX0_drop 199 = .ok (.aload_n 0, 1) := by decide +kernel
theorem dX0_drop_200 : decode cX0_drop 200 = .ok (.dup, 1) := by decide +kernel
theorem dX0_drop_201 : decode cX0_drop 201 = .ok (.getfield 44, 3) := by decide +kernel
theorem dX0_drop_204 : decode cX0_drop 204 = .ok (.iconst 1, 1) := by decide +kernel
theorem dX0_drop_205 : decode cX0_drop 205 = .ok (.isub, 1) := by decide +kernel
theorem dX0_drop_206 : decode cX0_drop 206 = .ok (.putfield 44, 3) := by decide +kernel
theorem dX0_drop_209 : decode cX0_drop 209 = .ok (.return_, 1) := by decide +kernel
abbrev cX0_prune : ByteArray := prog_1_method_12_code
def yX0_prune : MethodName := ⟨RX0, "prune", "(I)I"⟩
theorem dX0_prune_0 : decode cX0_prune 0 = .ok (.iload_n 1, 1) := by decide +kernel
theorem dX0_prune_1 : decode cX0_prune 1 = .ok (.ifCond .lt 10, 3) := by decide +kernel
theorem dX0_prune_4 : decode cX0_prune 4 = .ok (.iload_n 1, 1) := by decide +kernel
theorem dX0_prune_5 : decode cX0_prune 5 = .ok (.sipush 999, 3) := by decide +kernel
theorem dX0_prune_8 : decode cX0_prune 8 = .ok (.if_icmp .le 5, 3) := by decide +kernel
theorem dX0_prune_11 : decode cX0_prune 11 = .ok (.iconst (-1), 1) := by decide +kernel
theorem dX0_prune_12 : decode cX0_prune 12 = .ok (.ireturn, 1) := by decide +kernel
theorem dX0_prune_13 : decode cX0_prune 13 = .ok (.iconst 0, 1) := by decide +kernel
theorem dX0_prune_14 : decode cX0_prune 14 = .ok (.istore_n 2, 1) := by decide +kernel
theorem dX0_prune_15 : decode cX0_prune 15 = .ok (.iload_n 2, 1) := by decide +kernel
theorem dX0_prune_16 : decode cX0_prune 16 = .ok (.aload_n 0, 1) := by decide +kernel
theorem dX0_prune_17 : decode cX0_prune 17 = .ok (.getfield 44, 3) := by decide +kernel
theorem dX0_prune_20 : decode cX0_prune 20 = .ok (.if_icmp .ge 44, 3) := by decide +kernel
theorem dX0_prune_23 : decode cX0_prune 23 = .ok (.aload_n 0, 1) := by decide +kernel
theorem dX0_prune_24 : decode cX0_prune 24 = .ok (.getfield 41, 3) := by decide +kernel
theorem dX0_prune_27 : decode cX0_prune 27 = .ok (.iload_n 2, 1) := by decide +kernel
theorem dX0_prune_28 : decode cX0_prune 28 = .ok (.aload_n 0, 1) := by decide +kernel
theorem dX0_prune_29 : decode cX0_prune 29 = .ok (.getfield 31, 3) := by decide +kernel
theorem dX0_prune_32 : decode cX0_prune 32 = .ok (.aload_n 0, 1) := by decide +kernel
theorem dX0_prune_33 : decode cX0_prune 33 = .ok (.getfield 13, 3) := by decide +kernel
theorem dX0_prune_36 : decode cX0_prune 36 = .ok (.iload_n 2, 1) := by decide +kernel
theorem dX0_prune_37 : decode cX0_prune 37 = .ok (.iaload, 1) := by decide +kernel
theorem dX0_prune_38 : decode cX0_prune 38 = .ok (.baload, 1) := by decide +kernel
theorem dX0_prune_39 : decode cX0_prune 39 = .ok (.ifCond .ne 13, 3) := by decide +kernel
theorem dX0_prune_42 : decode cX0_prune 42 = .ok (.iload_n 2, 1) := by decide +kernel
theorem dX0_prune_43 : decode cX0_prune 43 = .ok (.aload_n 0, 1) := by decide +kernel
theorem dX0_prune_44 : decode cX0_prune 44 = .ok (.getfield 44, 3) := by decide +kernel
theorem dX0_prune_47 : decode cX0_prune 47 = .ok (.iconst 1, 1) := by decide +kernel
theorem dX0_prune_48 : decode cX0_prune 48 = .ok (.isub, 1) := by decide +kernel
theorem dX0_prune_49 : decode cX0_prune 49 = .ok (.if_icmp .ne 7, 3) := by decide +kernel
theorem dX0_prune_52 : decode cX0_prune 52 = .ok (.iconst 1, 1) := by decide +kernel
theorem dX0_prune_53 : decode cX0_prune 53 = .ok (.goto 4, 3) := by decide +kernel
theorem dX0_prune_56 : decode cX0_prune 56 = .ok (.iconst 0, 1) := by decide +kernel
theorem dX0_prune_57 : decode cX0_prune 57 = .ok (.bastore, 1) := by decide +kernel
theorem dX0_prune_58 : decode cX0_prune 58 = .ok (.iinc 2 1, 3) := by decide +kernel
theorem dX0_prune_61 : decode cX0_prune 61 = .ok (.goto (-46), 3) := by decide +kernel
theorem dX0_prune_64 : decode cX0_prune 64 = .ok (.aload_n 0, 1) := by decide +kernel
theorem dX0_prune_65 : decode cX0_prune 65 = .ok (.iconst 1, 1) := by decide +kernel
theorem dX0_prune_66 : decode cX0_prune 66 = .ok (.iload_n 1, 1) := by decide +kernel
theorem dX0_prune_67 : decode cX0_prune 67 = .ok (.bipush 100, 2) := by decide +kernel
theorem dX0_prune_69 : decode cX0_prune 69 = .ok (.idiv, 1) := by decide +kernel
theorem dX0_prune_70 : decode cX0_prune 70 = .ok (.invokevirtual 86, 3) := by decide +kernel
theorem dX0_prune_73 : decode cX0_prune 73 = .ok (.aload_n 0, 1) := by decide +kernel
theorem dX0_prune_74 : decode cX0_prune 74 = .ok (.bipush 7, 2) := by decide +kernel
theorem dX0_prune_76 : decode cX0_prune 76 = .ok (.iload_n 1, 1) := by decide +kernel
theorem dX0_prune_77 : decode cX0_prune 77 = .ok (.bipush 10, 2) := by decide +kernel
theorem dX0_prune_79 : decode cX0_prune 79 = .ok (.idiv, 1) := by decide +kernel
theorem dX0_prune_80 : decode cX0_prune 80 = .ok (.bipush 10, 2) := by decide +kernel
theorem dX0_prune_82 : decode cX0_prune 82 = .ok (.irem, 1) := by decide +kernel
theorem dX0_prune_83 : decode cX0_prune 83 = .ok (.invokevirtual 86, 3) := by decide +kernel
theorem dX0_prune_86 : decode cX0_prune 86 = .ok (.aload_n 0, 1) := by decide +kernel
theorem dX0_prune_87 : decode cX0_prune 87 = .ok (.bipush 28, 2) := by decide +kernel
theorem dX0_prune_89 : decode cX0_prune 89 = .ok (.iload_n 1, 1) := by decide +kernel
theorem dX0_prune_90 : decode cX0_prune 90 = .ok (.bipush 10, 2) := by decide +kernel
theorem dX0_prune_92 : decode cX0_prune 92 = .ok (.irem, 1) := by decide +kernel
theorem dX0_prune_93 : decode cX0_prune 93 = .ok (.invokevirtual 86, 3) := by decide +kernel
theorem dX0_prune_96 : decode cX0_prune 96 = .ok (.iconst 0, 1) := by decide +kernel
theorem dX0_prune_97 : decode cX0_prune 97 = .ok (.istore_n 2, 1) := by decide +kernel
theorem dX0_prune_98 : decode cX0_prune 98 = .ok (.aload_n 0, 1) := by decide +kernel
theorem dX0_prune_99 : decode cX0_prune 99 = .ok (.getfield 44, 3) := by decide +kernel
theorem dX0_prune_102 : decode cX0_prune 102 = .ok (.iconst 1, 1) := by decide +kernel
theorem dX0_prune_103 : decode cX0_prune 103 = .ok (.isub, 1) := by decide +kernel
theorem dX0_prune_104 : decode cX0_prune 104 = .ok (.istore_n 3, 1) := by decide +kernel
theorem dX0_prune_105 : decode cX0_prune 105 = .ok (.iload_n 3, 1) := by decide +kernel
theorem dX0_prune_106 : decode cX0_prune 106 = .ok (.ifCond .lt 26, 3) := by decide +kernel
theorem dX0_prune_109 : decode cX0_prune 109 = .ok (.aload_n 0, 1) := by decide +kernel
theorem dX0_prune_110 : decode cX0_prune 110 = .ok (.getfield 41, 3) := by decide +kernel
theorem dX0_prune_113 : decode cX0_prune 113 = .ok (.iload_n 3, 1) := by decide +kernel
theorem dX0_prune_114 : decode cX0_prune 114 = .ok (.baload, 1) := by decide +kernel
theorem dX0_prune_115 : decode cX0_prune 115 = .ok (.ifCond .ne 11, 3) := by decide +kernel
theorem dX0_prune_118 : decode cX0_prune 118 = .ok (.aload_n 0, 1) := by decide +kernel
theorem dX0_prune_119 : decode cX0_prune 119 = .ok (.iload_n 3, 1) := by decide +kernel
theorem dX0_prune_120 : decode cX0_prune 120 = .ok (.invokevirtual 82, 3) := by decide +kernel
theorem dX0_prune_123 : decode cX0_prune 123 = .ok (.iinc 2 1, 3) := by decide +kernel
theorem dX0_prune_126 : decode cX0_prune 126 = .ok (.iinc 3 (-1), 3) := by decide +kernel
theorem dX0_prune_129 : decode cX0_prune 129 = .ok (.goto (-24), 3) := by decide +kernel
theorem dX0_prune_132 : decode cX0_prune 132 = .ok (.iload_n 2, 1) := by decide +kernel
theorem dX0_prune_133 : decode cX0_prune 133 = .ok (.ireturn, 1) := by decide +kernel
end
section
set_option maxRecDepth 100000
abbrev cX0_keepHeads : ByteArray := prog_1_method_35_code
def yX0_keepHeads : MethodName := ⟨RX0, "keepHeads", "(II)V"⟩
theorem dX0_keepHeads_0 : decode cX0_keepHeads 0 = .ok (.iconst 0, 1) := by decide +kernel
theorem dX0_keepHeads_1 : decode cX0_keepHeads 1 = .ok (.istore_n 3, 1) := by decide +kernel
theorem dX0_keepHeads_2 : decode cX0_keepHeads 2 = .ok (.aload_n 0, 1) := by decide +kernel
theorem dX0_keepHeads_3 : decode cX0_keepHeads 3 = .ok (.getfield 44, 3) := by decide +kernel
theorem dX0_keepHeads_6 : decode cX0_keepHeads 6 = .ok (.iconst 1, 1) := by decide +kernel
theorem dX0_keepHeads_7 : decode cX0_keepHeads 7 = .ok (.isub, 1) := by decide +kernel
theorem dX0_keepHeads_8 : decode cX0_keepHeads 8 = .ok (.istore 4, 2) := by decide +kernel
theorem dX0_keepHeads_10 : decode cX0_keepHeads 10 = .ok (.iload 4, 2) := by decide +kernel
theorem dX0_keepHeads_12 : decode cX0_keepHeads 12 = .ok (.ifCond .lt 101, 3) := by decide +kernel
theorem dX0_keepHeads_15 : decode cX0_keepHeads 15 = .ok (.aload_n 0, 1) := by decide +kernel
theorem dX0_keepHeads_16 : decode cX0_keepHeads 16 = .ok (.getfield 28, 3) := by decide +kernel
theorem dX0_keepHeads_19 : decode cX0_keepHeads 19 = .ok (.aload_n 0, 1) := by decide +kernel
theorem dX0_keepHeads_20 : decode cX0_keepHeads 20 = .ok (.getfield 13, 3) := by decide +kernel
theorem dX0_keepHeads_23 : decode cX0_keepHeads 23 = .ok (.iload 4, 2) := by decide +kernel
theorem dX0_keepHeads_25 : decode cX0_keepHeads 25 = .ok (.iaload, 1) := by decide +kernel
theorem dX0_keepHeads_26 : decode cX0_keepHeads 26 = .ok (.iaload, 1) := by decide +kernel
theorem dX0_keepHeads_27 : decode cX0_keepHeads 27 = .ok (.iload_n 1, 1) := by decide +kernel
theorem dX0_keepHeads_28 : decode cX0_keepHeads 28 = .ok (.ifCond .le 7, 3) := by decide +kernel
theorem dX0_keepHeads_31 : decode cX0_keepHeads 31 = .ok (.iload_n 1, 1) := by decide +kernel
theorem dX0_keepHeads_32 : decode cX0_keepHeads 32 = .ok (.goto 4, 3) := by decide +kernel
theorem dX0_keepHeads_35 : decode cX0_keepHeads 35 = .ok (.iconst 1, 1) := by decide +kernel
theorem dX0_keepHeads_36 : decode cX0_keepHeads 36 = .ok (.idiv, 1) := by decide +kernel
theorem dX0_keepHeads_37 : decode cX0_keepHeads 37 = .ok (.istore 5, 2) := by decide +kernel
theorem dX0_keepHeads_39 : decode cX0_keepHeads 39 = .ok (.iload 4, 2) := by decide +kernel
theorem dX0_keepHeads_41 : decode cX0_keepHeads 41 = .ok (.aload_n 0, 1) := by decide +kernel
theorem dX0_keepHeads_42 : decode cX0_keepHeads 42 = .ok (.getfield 44, 3) := by decide +kernel
theorem dX0_keepHeads_45 : decode cX0_keepHeads 45 = .ok (.iconst 1, 1) := by decide +kernel
theorem dX0_keepHeads_46 : decode cX0_keepHeads 46 = .ok (.isub, 1) := by decide +kernel
theorem dX0_keepHeads_47 : decode cX0_keepHeads 47 = .ok (.if_icmp .eq 32, 3) := by decide +kernel
theorem dX0_keepHeads_50 : decode cX0_keepHeads 50 = .ok (.aload_n 0, 1) := by decide +kernel
theorem dX0_keepHeads_51 : decode cX0_keepHeads 51 = .ok (.getfield 28, 3) := by decide +kernel
theorem dX0_keepHeads_54 : decode cX0_keepHeads 54 = .ok (.aload_n 0, 1) := by decide +kernel
theorem dX0_keepHeads_55 : decode cX0_keepHeads 55 = .ok (.getfield 13, 3) := by decide +kernel
theorem dX0_keepHeads_58 : decode cX0_keepHeads 58 = .ok (.iload 4, 2) := by decide +kernel
theorem dX0_keepHeads_60 : decode cX0_keepHeads 60 = .ok (.iconst 1, 1) := by decide +kernel
theorem dX0_keepHeads_61 : decode cX0_keepHeads 61 = .ok (.iadd, 1) := by decide +kernel
theorem dX0_keepHeads_62 : decode cX0_keepHeads 62 = .ok (.iaload, 1) := by decide +kernel
theorem dX0_keepHeads_63 : decode cX0_keepHeads 63 = .ok (.iaload, 1) := by decide +kernel
theorem dX0_keepHeads_64 : decode cX0_keepHeads 64 = .ok (.iload_n 1, 1) := by decide +kernel
theorem dX0_keepHeads_65 : decode cX0_keepHeads 65 = .ok (.ifCond .le 7, 3) := by decide +kernel
theorem dX0_keepHeads_68 : decode cX0_keepHeads 68 = .ok (.iload_n 1, 1) := by decide +kernel
theorem dX0_keepHeads_69 : decode cX0_keepHeads 69 = .ok (.goto 4, 3) := by decide +kernel
theorem dX0_keepHeads_72 : decode cX0_keepHeads 72 = .ok (.iconst 1, 1) := by decide +kernel
theorem dX0_keepHeads_73 : decode cX0_keepHeads 73 = .ok (.idiv, 1) := by decide +kernel
theorem dX0_keepHeads_74 : decode cX0_keepHeads 74 = .ok (.iload 5, 2) := by decide +kernel
theorem dX0_keepHeads_76 : decode cX0_keepHeads 76 = .ok (.if_icmp .eq 7, 3) := by decide +kernel
theorem dX0_keepHeads_79 : decode cX0_keepHeads 79 = .ok (.iconst 1, 1) := by decide +kernel
theorem dX0_keepHeads_80 : decode cX0_keepHeads 80 = .ok (.goto 4, 3) := by decide +kernel
theorem dX0_keepHeads_83 : decode cX0_keepHeads 83 = .ok (.iconst 0, 1) := by decide +kernel
theorem dX0_keepHeads_84 : decode cX0_keepHeads 84 = .ok (.istore 6, 2) := by decide +kernel
theorem dX0_keepHeads_86 : decode cX0_keepHeads 86 = .ok (.iload 6, 2) := by decide +kernel
theorem dX0_keepHeads_88 : decode cX0_keepHeads 88 = .ok (.ifCond .eq 19, 3) := by decide +kernel
theorem dX0_keepHeads_91 : decode cX0_keepHeads 91 = .ok (.iinc 3 1, 3) := by decide +kernel
theorem dX0_keepHeads_94 : decode cX0_keepHeads 94 = .ok (.iload_n 3, 1) := by decide +kernel
theorem dX0_keepHeads_95 : decode cX0_keepHeads 95 = .ok (.iload_n 2, 1) := by decide +kernel
theorem dX0_keepHeads_96 : decode cX0_keepHeads 96 = .ok (.if_icmp .gt 11, 3) := by decide +kernel
theorem dX0_keepHeads_99 : decode cX0_keepHeads 99 = .ok (.aload_n 0, 1) := by decide +kernel
theorem dX0_keepHeads_100 : decode cX0_keepHeads 100 = .ok (.getfield 41, 3) := by decide +kernel
theorem dX0_keepHeads_103 : decode cX0_keepHeads 103 = .ok (.iload 4, 2) := by decide +kernel
theorem dX0_keepHeads_105 : decode cX0_keepHeads 105 = .ok (.iconst 1, 1) := by decide +kernel
theorem dX0_keepHeads_106 : decode cX0_keepHeads 106 = .ok (.bastore, 1) := by decide +kernel
theorem dX0_keepHeads_107 : decode cX0_keepHeads 107 = .ok (.iinc 4 (-1), 3) := by decide +kernel
theorem dX0_keepHeads_110 : decode cX0_keepHeads 110 = .ok (.goto (-100), 3) := by decide +kernel
theorem dX0_keepHeads_113 : decode cX0_keepHeads 113 = .ok (.return_, 1) := by decide +kernel
abbrev cX0_points : ByteArray := prog_1_method_13_code
def yX0_points : MethodName := ⟨RX0, "points", "()I"⟩
theorem dX0_points_0 : decode cX0_points 0 = .ok (.aload_n 0, 1) := by decide +kernel
theorem dX0_points_1 : decode cX0_points 1 = .ok (.getfield 44, 3) := by decide +kernel
theorem dX0_points_4 : decode cX0_points 4 = .ok (.ireturn, 1) := by decide +kernel
abbrev cX0_dayOf : ByteArray := prog_1_method_14_code
def yX0_dayOf : MethodName := ⟨RX0, "dayOf", "(I)I"⟩
theorem dX0_dayOf_0 : decode cX0_dayOf 0 = .ok (.aload_n 0, 1) := by decide +kernel
theorem dX0_dayOf_1 : decode cX0_dayOf 1 = .ok (.iload_n 1, 1) := by decide +kernel
theorem dX0_dayOf_2 : decode cX0_dayOf 2 = .ok (.invokevirtual 75, 3) := by decide +kernel
theorem dX0_dayOf_5 : decode cX0_dayOf 5 = .ok (.ifCond .eq 17, 3) := by decide +kernel
theorem dX0_dayOf_8 : decode cX0_dayOf 8 = .ok (.aload_n 0, 1) := by decide +kernel
theorem dX0_dayOf_9 : decode cX0_dayOf 9 = .ok (.getfield 28, 3) := by decide +kernel
theorem dX0_dayOf_12 : decode cX0_dayOf 12 = .ok (.aload_n 0, 1) := by decide +kernel
theorem dX0_dayOf_13 : decode cX0_dayOf 13 = .ok (.getfield 13, 3) := by decide +kernel
theorem dX0_dayOf_16 : decode cX0_dayOf 16 = .ok (.iload_n 1, 1) := by decide +kernel
theorem dX0_dayOf_17 : decode cX0_dayOf 17 = .ok (.iaload, 1) := by decide +kernel
theorem dX0_dayOf_18 : decode cX0_dayOf 18 = .ok (.iaload, 1) := by decide +kernel
theorem dX0_dayOf_19 : decode cX0_dayOf 19 = .ok (.goto 4, 3) := by decide +kernel
theorem dX0_dayOf_22 : decode cX0_dayOf 22 = .ok (.iconst (-1), 1) := by decide +kernel
theorem dX0_dayOf_23 : decode cX0_dayOf 23 = .ok (.ireturn, 1) := by decide +kernel
abbrev cX0_pinned : ByteArray := prog_1_method_15_code
def yX0_pinned : MethodName := ⟨RX0, "pinned", "(I)I"⟩
theorem dX0_pinned_0 : decode cX0_pinned 0 = .ok (.aload_n 0, 1) := by decide +kernel
theorem dX0_pinned_1 : decode cX0_pinned 1 = .ok (.iload_n 1, 1) := by decide +kernel
theorem dX0_pinned_2 : decode cX0_pinned 2 = .ok (.invokevirtual 75, 3) := by decide +kernel
theorem dX0_pinned_5 : decode cX0_pinned 5 = .ok (.ifCond .ne 5, 3) := by decide +kernel
theorem dX0_pinned_8 : decode cX0_pinned 8 = .ok (.iconst (-1), 1) := by decide +kernel
theorem dX0_pinned_9 : decode cX0_pinned 9 = .ok (.ireturn, 1) := by decide +kernel
theorem dX0_pinned_10 : decode cX0_pinned 10 = .ok (.aload_n 0, 1) := by decide +kernel
theorem dX0_pinned_11 : decode cX0_pinned 11 = .ok (.getfield 31, 3) := by decide +kernel
theorem dX0_pinned_14 : decode cX0_pinned 14 = .ok (.aload_n 0, 1) := by decide +kernel
theorem dX0_pinned_15 : decode cX0_pinned 15 = .ok (.getfield 13, 3) := by decide +kernel
theorem dX0_pinned_18 : decode cX0_pinned 18 = .ok (.iload_n 1, 1) := by decide +kernel
theorem dX0_pinned_19 : decode cX0_pinned 19 = .ok (.iaload, 1) := by decide +kernel
theorem dX0_pinned_20 : decode cX0_pinned 20 = .ok (.baload, 1) := by decide +kernel
theorem dX0_pinned_21 : decode cX0_pinned 21 = .ok (.ifCond .eq 7, 3) := by decide +kernel
theorem dX0_pinned_24 : decode cX0_pinned 24 = .ok (.iconst 1, 1) := by decide +kernel
theorem dX0_pinned_25 : decode cX0_pinned 25 = .ok (.goto 4, 3) := by decide +kernel
theorem dX0_pinned_28 : decode cX0_pinned 28 = .ok (.iconst 0, 1) := by decide +kernel
theorem dX0_pinned_29 : decode cX0_pinned 29 = .ok (.ireturn, 1) := by decide +kernel
abbrev cX0_there : ByteArray := prog_1_method_16_code
def yX0_there : MethodName := ⟨RX0, "there", "(II)I"⟩
theorem dX0_there_0 : decode cX0_there 0 = .ok (.aload_n 0, 1) := by decide +kernel
theorem dX0_there_1 : decode cX0_there 1 = .ok (.iload_n 1, 1) := by decide +kernel
theorem dX0_there_2 : decode cX0_there 2 = .ok (.invokevirtual 75, 3) := by decide +kernel
theorem dX0_there_5 : decode cX0_there 5 = .ok (.ifCond .ne 5, 3) := by decide +kernel
theorem dX0_there_8 : decode cX0_there 8 = .ok (.iconst (-1), 1) := by decide +kernel
theorem dX0_there_9 : decode cX0_there 9 = .ok (.ireturn, 1) := by decide +kernel
theorem dX0_there_10 : decode cX0_there 10 = .ok (.iload_n 2, 1) := by decide +kernel
theorem dX0_there_11 : decode cX0_there 11 = .ok (.invokestatic 48, 3) := by decide +kernel
theorem dX0_there_14 : decode cX0_there 14 = .ok (.ifCond .ne 6, 3) := by decide +kernel
theorem dX0_there_17 : decode cX0_there 17 = .ok (.bipush (-2), 2) := by decide +kernel
theorem dX0_there_19 : decode cX0_there 19 = .ok (.ireturn, 1) := by decide +kernel
theorem dX0_there_20 : decode cX0_there 20 = .ok (.aload_n 0, 1) := by decide +kernel
theorem dX0_there_21 : decode cX0_there 21 = .ok (.aload_n 0, 1) := by decide +kernel
theorem dX0_there_22 : decode cX0_there 22 = .ok (.getfield 13, 3) := by decide +kernel
theorem dX0_there_25 : decode cX0_there 25 = .ok (.iload_n 1, 1) := by decide +kernel
theorem dX0_there_26 : decode cX0_there 26 = .ok (.iaload, 1) := by decide +kernel
theorem dX0_there_27 : decode cX0_there 27 = .ok (.iload_n 2, 1) := by decide +kernel
theorem dX0_there_28 : decode cX0_there 28 = .ok (.invokevirtual 90, 3) := by decide +kernel
theorem dX0_there_31 : decode cX0_there 31 = .ok (.istore_n 3, 1) := by decide +kernel
theorem dX0_there_32 : decode cX0_there 32 = .ok (.aload_n 0, 1) := by decide +kernel
theorem dX0_there_33 : decode cX0_there 33 = .ok (.getfield 22, 3) := by decide +kernel
theorem dX0_there_36 : decode cX0_there 36 = .ok (.iload_n 3, 1) := by decide +kernel
theorem dX0_there_37 : decode cX0_there 37 = .ok (.iaload, 1) := by decide +kernel
theorem dX0_there_38 : decode cX0_there 38 = .ok (.iload_n 2, 1) := by decide +kernel
theorem dX0_there_39 : decode cX0_there 39 = .ok (.ishr, 1) := by decide +kernel
theorem dX0_there_40 : decode cX0_there 40 = .ok (.iconst 1, 1) := by decide +kernel
theorem dX0_there_41 : decode cX0_there 41 = .ok (.iand, 1) := by decide +kernel
theorem dX0_there_42 : decode cX0_there 42 = .ok (.ireturn, 1) := by decide +kernel
abbrev cX0_content : ByteArray := prog_1_method_17_code
def yX0_content : MethodName := ⟨RX0, "content", "(II)I"⟩
theorem dX0_content_0 : decode cX0_content 0 = .ok (.aload_n 0, 1) := by decide +kernel
theorem dX0_content_1 : decode cX0_content 1 = .ok (.iload_n 1, 1) := by decide +kernel
theorem dX0_content_2 : decode cX0_content 2 = .ok (.invokevirtual 75, 3) := by decide +kernel
theorem dX0_content_5 : decode cX0_content 5 = .ok (.ifCond .eq 10, 3) := by decide +kernel
theorem dX0_content_8 : decode cX0_content 8 = .ok (.iload_n 2, 1) := by decide +kernel
theorem dX0_content_9 : decode cX0_content 9 = .ok (.invokestatic 48, 3) := by decide +kernel
theorem dX0_content_12 : decode cX0_content 12 = .ok (.ifCond .ne 5, 3) := by decide +kernel
theorem dX0_content_15 : decode cX0_content 15 = .ok (.iconst 0, 1) := by decide +kernel
theorem dX0_content_16 : decode cX0_content 16 = .ok (.ireturn, 1) := by decide +kernel
theorem dX0_content_17 : decode cX0_content 17 = .ok (.aload_n 0, 1) := by decide +kernel
theorem dX0_content_18 : decode cX0_content 18 = .ok (.aload_n 0, 1) := by decide +kernel
theorem dX0_content_19 : decode cX0_content 19 = .ok (.getfield 13, 3) := by decide +kernel
theorem dX0_content_22 : decode cX0_content 22 = .ok (.iload_n 1, 1) := by decide +kernel
theorem dX0_content_23 : decode cX0_content 23 = .ok (.iaload, 1) := by decide +kernel
theorem dX0_content_24 : decode cX0_content 24 = .ok (.iload_n 2, 1) := by decide +kernel
theorem dX0_content_25 : decode cX0_content 25 = .ok (.invokevirtual 90, 3) := by decide +kernel
theorem dX0_content_28 : decode cX0_content 28 = .ok (.istore_n 3, 1) := by decide +kernel
theorem dX0_content_29 : decode cX0_content 29 = .ok (.aload_n 0, 1) := by decide +kernel
theorem dX0_content_30 : decode cX0_content 30 = .ok (.getfield 22, 3) := by decide +kernel
theorem dX0_content_33 : decode cX0_content 33 = .ok (.iload_n 3, 1) := by decide +kernel
theorem dX0_content_34 : decode cX0_content 34 = .ok (.iaload, 1) := by decide +kernel
theorem dX0_content_35 : decode cX0_content 35 = .ok (.iload_n 2, 1) := by decide +kernel
theorem dX0_content_36 : decode cX0_content 36 = .ok (.invokestatic 59, 3) := by decide +kernel
theorem dX0_content_39 : decode cX0_content 39 = .ok (.ifCond .eq 17, 3) := by decide +kernel
theorem dX0_content_42 : decode cX0_content 42 = .ok (.aload_n 0, 1) := by decide +kernel
theorem dX0_content_43 : decode cX0_content 43 = .ok (.getfield 25, 3) := by decide +kernel
theorem dX0_content_46 : decode cX0_content 46 = .ok (.bipush 16, 2) := by decide +kernel
theorem dX0_content_48 : decode cX0_content 48 = .ok (.iload_n 3, 1) := by decide +kernel
theorem dX0_content_49 : decode cX0_content 49 = .ok (.imul, 1) := by decide +kernel
theorem dX0_content_50 : decode cX0_content 50 = .ok (.iload_n 2, 1) := by decide +kernel
theorem dX0_content_51 : decode cX0_content 51 = .ok (.iadd, 1) := by decide +kernel
theorem dX0_content_52 : decode cX0_content 52 = .ok (.iaload, 1) := by decide +kernel
theorem dX0_content_53 : decode cX0_content 53 = .ok (.goto 4, 3) := by decide +kernel
theorem dX0_content_56 : decode cX0_content 56 = .ok (.iconst 0, 1) := by decide +kernel
theorem dX0_content_57 : decode cX0_content 57 = .ok (.ireturn, 1) := by decide +kernel
abbrev cX0_liveThere : ByteArray := prog_1_method_18_code
def yX0_liveThere : MethodName := ⟨RX0, "liveThere", "(I)I"⟩
theorem dX0_liveThere_0 : decode cX0_liveThere 0 = .ok (.iload_n 1, 1) := by decide +kernel
theorem dX0_liveThere_1 : decode cX0_liveThere 1 = .ok (.invokestatic 48, 3) := by decide +kernel
theorem dX0_liveThere_4 : decode cX0_liveThere 4 = .ok (.ifCond .eq 14, 3) := by decide +kernel
theorem dX0_liveThere_7 : decode cX0_liveThere 7 = .ok (.aload_n 0, 1) := by decide +kernel
theorem dX0_liveThere_8 : decode cX0_liveThere 8 = .ok (.getfield 52, 3) := by decide +kernel
theorem dX0_liveThere_11 : decode cX0_liveThere 11 = .ok (.iload_n 1, 1) := by decide +kernel
theorem dX0_liveThere_12 : decode cX0_liveThere 12 = .ok (.ishr, 1) := by decide +kernel
theorem dX0_liveThere_13 : decode cX0_liveThere 13 = .ok (.iconst 1, 1) := by decide +kernel
theorem dX0_liveThere_14 : decode cX0_liveThere 14 = .ok (.iand, 1) := by decide +kernel
theorem dX0_liveThere_15 : decode cX0_liveThere 15 = .ok (.goto 4, 3) := by decide +kernel
theorem dX0_liveThere_18 : decode cX0_liveThere 18 = .ok (.iconst (-1), 1) := by decide +kernel
theorem dX0_liveThere_19 : decode cX0_liveThere 19 = .ok (.ireturn, 1) := by decide +kernel
abbrev cX0_live : ByteArray := prog_1_method_19_code
def yX0_live : MethodName := ⟨RX0, "live", "(I)I"⟩
theorem dX0_live_0 : decode cX0_live 0 = .ok (.iload_n 1, 1) := by decide +kernel
theorem dX0_live_1 : decode cX0_live 1 = .ok (.invokestatic 48, 3) := by decide +kernel
theorem dX0_live_4 : decode cX0_live 4 = .ok (.ifCond .eq 23, 3) := by decide +kernel
theorem dX0_live_7 : decode cX0_live 7 = .ok (.aload_n 0, 1) := by decide +kernel
theorem dX0_live_8 : decode cX0_live 8 = .ok (.getfield 52, 3) := by decide +kernel
theorem dX0_live_11 : decode cX0_live 11 = .ok (.iload_n 1, 1) := by decide +kernel
theorem dX0_live_12 : decode cX0_live 12 = .ok (.invokestatic 59, 3) := by decide +kernel
theorem dX0_live_15 : decode cX0_live 15 = .ok (.ifCond .eq 12, 3) := by decide +kernel
theorem dX0_live_18 : decode cX0_live 18 = .ok (.aload_n 0, 1) := by decide +kernel
theorem dX0_live_19 : decode cX0_live 19 = .ok (.getfield 7, 3) := by decide +kernel
theorem dX0_live_22 : decode cX0_live 22 = .ok (.iload_n 1, 1) := by decide +kernel
theorem dX0_live_23 : decode cX0_live 23 = .ok (.iaload, 1) := by decide +kernel
theorem dX0_live_24 : decode cX0_live 24 = .ok (.goto 4, 3) := by decide +kernel
theorem dX0_live_27 : decode cX0_live 27 = .ok (.iconst 0, 1) := by decide +kernel
theorem dX0_live_28 : decode cX0_live 28 = .ok (.ireturn, 1) := by decide +kernel
abbrev cX0_differing : ByteArray := prog_1_method_20_code
def yX0_differing : MethodName := ⟨RX0, "differing", "(II)I"⟩
theorem dX0_differing_0 : decode cX0_differing 0 = .ok (.aload_n 0, 1) := by decide +kernel
theorem dX0_differing_1 : decode cX0_differing 1 = .ok (.iload_n 1, 1) := by decide +kernel
theorem dX0_differing_2 : decode cX0_differing 2 = .ok (.invokevirtual 75, 3) := by decide +kernel
theorem dX0_differing_5 : decode cX0_differing 5 = .ok (.ifCond .eq 11, 3) := by decide +kernel
theorem dX0_differing_8 : decode cX0_differing 8 = .ok (.aload_n 0, 1) := by decide +kernel
theorem dX0_differing_9 : decode cX0_differing 9 = .ok (.iload_n 2, 1) := by decide +kernel
theorem dX0_differing_10 : decode cX0_differing 10 = .ok (.invokevirtual 75, 3) := by decide +kernel
theorem dX0_differing_13 : decode cX0_differing 13 = .ok (.ifCond .ne 5, 3) := by decide +kernel
theorem dX0_differing_16 : decode cX0_differing 16 = .ok (.iconst (-1), 1) := by decide +kernel
theorem dX0_differing_17 : decode cX0_differing 17 = .ok (.ireturn, 1) := by decide +kernel
theorem dX0_differing_18 : decode cX0_differing 18 = .ok (.iconst 0, 1) := by decide +kernel
theorem dX0_differing_19 : decode cX0_differing 19 = .ok (.istore_n 3, 1) := by decide +kernel
theorem dX0_differing_20 : decode cX0_differing 20 = .ok (.iconst 0, 1) := by decide +kernel
theorem dX0_differing_21 : decode cX0_differing 21 = .ok (.istore 4, 2) := by decide +kernel
theorem dX0_differing_23 : decode cX0_differing 23 = .ok (.iload 4, 2) := by decide +kernel
theorem dX0_differing_25 : decode cX0_differing 25 = .ok (.bipush 16, 2) := by decide +kernel
theorem dX0_differing_27 : decode cX0_differing 27 = .ok (.if_icmp .ge 33, 3) := by decide +kernel
theorem dX0_differing_30 : decode cX0_differing 30 = .ok (.aload_n 0, 1) := by decide +kernel
theorem dX0_differing_31 : decode cX0_differing 31 = .ok (.aload_n 0, 1) := by decide +kernel
theorem dX0_differing_32 : decode cX0_differing 32 = .ok (.getfield 13, 3) := by decide +kernel
theorem dX0_differing_35 : decode cX0_differing 35 = .ok (.iload_n 1, 1) := by decide +kernel
theorem dX0_differing_36 : decode cX0_differing 36 = .ok (.iaload, 1) := by decide +kernel
theorem dX0_differing_37 : decode cX0_differing 37 = .ok (.aload_n 0, 1) := by decide +kernel
theorem dX0_differing_38 : decode cX0_differing 38 = .ok (.getfield 13, 3) := by decide +kernel
theorem dX0_differing_41 : decode cX0_differing 41 = .ok (.iload_n 2, 1) := by decide +kernel
theorem dX0_differing_42 : decode cX0_differing 42 = .ok (.iaload, 1) := by decide +kernel
theorem dX0_differing_43 : decode cX0_differing 43 = .ok (.iload 4, 2) := by decide +kernel
theorem dX0_differing_45 : decode cX0_differing 45 = .ok (.invokevirtual 93, 3) := by decide +kernel
theorem dX0_differing_48 : decode cX0_differing 48 = .ok (.ifCond .eq 6, 3) := by decide +kernel
theorem dX0_differing_51 : decode cX0_differing 51 = .ok (.iinc 3 1, 3) := by decide +kernel
theorem dX0_differing_54 : decode cX0_differing 54 = .ok (.iinc 4 1, 3) := by decide +kernel
theorem dX0_differing_57 : decode cX0_differing 57 = .ok (.goto (-34), 3) := by decide +kernel
theorem dX0_differing_60 : decode cX0_differing 60 = .ok (.iload_n 3, 1) := by decide +kernel
theorem dX0_differing_61 : decode cX0_differing 61 = .ok (.ireturn, 1) := by decide +kernel
abbrev cX0_differs : ByteArray := prog_1_method_33_code
def yX0_differs : MethodName := ⟨RX0, "differs", "(III)Z"⟩
theorem dX0_differs_0 : decode cX0_differs 0 = .ok (.aload_n 0, 1) := by decide +kernel
theorem dX0_differs_1 : decode cX0_differs 1 = .ok (.iload_n 1, 1) := by decide +kernel
theorem dX0_differs_2 : decode cX0_differs 2 = .ok (.iload_n 3, 1) := by decide +kernel
theorem dX0_differs_3 : decode cX0_differs 3 = .ok (.invokevirtual 90, 3) := by decide +kernel
theorem dX0_differs_6 : decode cX0_differs 6 = .ok (.istore 4, 2) := by decide +kernel
theorem dX0_differs_8 : decode cX0_differs 8 = .ok (.aload_n 0, 1) := by decide +kernel
theorem dX0_differs_9 : decode cX0_differs 9 = .ok (.iload_n 2, 1) := by decide +kernel
theorem dX0_differs_10 : decode cX0_differs 10 = .ok (.iload_n 3, 1) := by decide +kernel
theorem dX0_differs_11 : decode cX0_differs 11 = .ok (.invokevirtual 90, 3) := by decide +kernel
theorem dX0_differs_14 : decode cX0_differs 14 = .ok (.istore 5, 2) := by decide +kernel
theorem dX0_differs_16 : decode cX0_differs 16 = .ok (.iload 4, 2) := by decide +kernel
theorem dX0_differs_18 : decode cX0_differs 18 = .ok (.iload 5, 2) := by decide +kernel
theorem dX0_differs_20 : decode cX0_differs 20 = .ok (.if_icmp .ne 5, 3) := by decide +kernel
theorem dX0_differs_23 : decode cX0_differs 23 = .ok (.iconst 0, 1) := by decide +kernel
theorem dX0_differs_24 : decode cX0_differs 24 = .ok (.ireturn, 1) := by decide +kernel
theorem dX0_differs_25 : decode cX0_differs 25 = .ok (.aload_n 0, 1) := by decide +kernel
theorem dX0_differs_26 : decode cX0_differs 26 = .ok (.getfield 22, 3) := by decide +kernel
theorem dX0_differs_29 : decode cX0_differs 29 = .ok (.iload 4, 2) := by decide +kernel
theorem dX0_differs_31 : decode cX0_differs 31 = .ok (.iaload, 1) := by decide +kernel
theorem dX0_differs_32 : decode cX0_differs 32 = .ok (.iload_n 3, 1) := by decide +kernel
theorem dX0_differs_33 : decode cX0_differs 33 = .ok (.invokestatic 59, 3) := by decide +kernel
theorem dX0_differs_36 : decode cX0_differs 36 = .ok (.aload_n 0, 1) := by decide +kernel
theorem dX0_differs_37 : decode cX0_differs 37 = .ok (.getfield 22, 3) := by decide +kernel
theorem dX0_differs_40 : decode cX0_differs 40 = .ok (.iload 5, 2) := by decide +kernel
theorem dX0_differs_42 : decode cX0_differs 42 = .ok (.iaload, 1) := by decide +kernel
theorem dX0_differs_43 : decode cX0_differs 43 = .ok (.iload_n 3, 1) := by decide +kernel
theorem dX0_differs_44 : decode cX0_differs 44 = .ok (.invokestatic 59, 3) := by decide +kernel
theorem dX0_differs_47 : decode cX0_differs 47 = .ok (.if_icmp .eq 5, 3) := by decide +kernel
theorem dX0_differs_50 : decode cX0_differs 50 = .ok (.iconst 1, 1) := by decide +kernel
theorem dX0_differs_51 : decode cX0_differs 51 = .ok (.ireturn, 1) := by decide +kernel
theorem dX0_differs_52 : decode cX0_differs 52 = .ok (.aload_n 0, 1) := by decide +kernel
theorem dX0_differs_53 : decode cX0_differs 53 = .ok (.getfield 22, 3) := by decide +kernel
theorem dX0_differs_56 : decode cX0_differs 56 = .ok (.iload 4, 2) := by decide +kernel
theorem dX0_differs_58 : decode cX0_differs 58 = .ok (.iaload, 1) := by decide +kernel
theorem dX0_differs_59 : decode cX0_differs 59 = .ok (.iload_n 3, 1) := by decide +kernel
theorem dX0_differs_60 : decode cX0_differs 60 = .ok (.invokestatic 59, 3) := by decide +kernel
theorem dX0_differs_63 : decode cX0_differs 63 = .ok (.ifCond .eq 34, 3) := by decide +kernel
theorem dX0_differs_66 : decode cX0_differs 66 = .ok (.aload_n 0, 1) := by decide +kernel
theorem dX0_differs_67 : decode cX0_differs 67 = .ok (.getfield 25, 3) := by decide +kernel
theorem dX0_differs_70 : decode cX0_differs 70 = .ok (.bipush 16, 2) := by decide +kernel
theorem dX0_differs_72 : decode cX0_differs 72 = .ok (.iload 4, 2) := by decide +kernel
theorem dX0_differs_74 : decode cX0_differs 74 = .ok (.imul, 1) := by decide +kernel
theorem dX0_differs_75 : decode cX0_differs 75 = .ok (.iload_n 3, 1) := by decide +kernel
theorem dX0_differs_76 : decode cX0_differs 76 = .ok (.iadd, 1) := by decide +kernel
theorem dX0_differs_77 : decode cX0_differs 77 = .ok (.iaload, 1) := by decide +kernel
theorem dX0_differs_78 : decode cX0_differs 78 = .ok (.aload_n 0, 1) := by decide +kernel
theorem dX0_differs_79 : decode cX0_differs 79 = .ok (.getfield 25, 3) := by decide +kernel
theorem dX0_differs_82 : decode cX0_differs 82 = .ok (.bipush 16, 2) := by decide +kernel
theorem dX0_differs_84 : decode cX0_differs 84 = .ok (.iload 5, 2) := by decide +kernel
theorem dX0_differs_86 : decode cX0_differs 86 = .ok (.imul, 1) := by decide +kernel
theorem dX0_differs_87 : decode cX0_differs 87 = .ok (.iload_n 3, 1) := by decide +kernel
theorem dX0_differs_88 : decode cX0_differs 88 = .ok (.iadd, 1) := by decide +kernel
theorem dX0_differs_89 : decode cX0_differs 89 = .ok (.iaload, 1) := by decide +kernel
theorem dX0_differs_90 : decode cX0_differs 90 = .ok (.if_icmp .eq 7, 3) := by decide +kernel
theorem dX0_differs_93 : decode cX0_differs 93 = .ok (.iconst 1, 1) := by decide +kernel
theorem dX0_differs_94 : decode cX0_differs 94 = .ok (.goto 4, 3) := by decide +kernel
theorem dX0_differs_97 : decode cX0_differs 97 = .ok (.iconst 0, 1) := by decide +kernel
theorem dX0_differs_98 : decode cX0_differs 98 = .ok (.ireturn, 1) := by decide +kernel
abbrev cX0_changedSince : ByteArray := prog_1_method_21_code
def yX0_changedSince : MethodName := ⟨RX0, "changedSince", "(I)I"⟩
theorem dX0_changedSince_0 : decode cX0_changedSince 0 = .ok (.aload_n 0, 1) := by decide +kernel
theorem dX0_changedSince_1 : decode cX0_changedSince 1 = .ok (.iload_n 1, 1) := by decide +kernel
theorem dX0_changedSince_2 : decode cX0_changedSince 2 = .ok (.invokevirtual 75, 3) := by decide +kernel
theorem dX0_changedSince_5 : decode cX0_changedSince 5 = .ok (.ifCond .ne 5, 3) := by decide +kernel
theorem dX0_changedSince_8 : decode cX0_changedSince 8 = .ok (.iconst (-1), 1) := by decide +kernel
theorem dX0_changedSince_9 : decode cX0_changedSince 9 = .ok (.ireturn, 1) := by decide +kernel
theorem dX0_changedSince_10 : decode cX0_changedSince 10 = .ok (.aload_n 0, 1) := by decide +kernel
theorem dX0_changedSince_11 : decode cX0_changedSince 11 = .ok (.getfield 13, 3) := by decide +kernel
theorem dX0_changedSince_14 : decode cX0_changedSince 14 = .ok (.iload_n 1, 1) := by decide +kernel
theorem dX0_changedSince_15 : decode cX0_changedSince 15 = .ok (.iaload, 1) := by decide +kernel
theorem dX0_changedSince_16 : decode cX0_changedSince 16 = .ok (.istore_n 2, 1) := by decide +kernel
theorem dX0_changedSince_17 : decode cX0_changedSince 17 = .ok (.iconst 0, 1) := by decide +kernel
theorem dX0_changedSince_18 : decode cX0_changedSince 18 = .ok (.istore_n 3, 1) := by decide +kernel
theorem dX0_changedSince_19 : decode cX0_changedSince 19 = .ok (.iconst 0, 1) := by decide +kernel
theorem dX0_changedSince_20 : decode cX0_changedSince 20 = .ok (.istore 4, 2) := by decide +kernel
theorem dX0_changedSince_22 : decode cX0_changedSince 22 = .ok (.iload 4, 2) := by decide +kernel
theorem dX0_changedSince_24 : decode cX0_changedSince 24 = .ok (.bipush 16, 2) := by decide +kernel
theorem dX0_changedSince_26 : decode cX0_changedSince 26 = .ok (.if_icmp .ge 36, 3) := by decide +kernel
theorem dX0_changedSince_29 : decode cX0_changedSince 29 = .ok (.aload_n 0, 1) := by decide +kernel
theorem dX0_changedSince_30 : decode cX0_changedSince 30 = .ok (.getfield 35, 3) := by decide +kernel
theorem dX0_changedSince_33 : decode cX0_changedSince 33 = .ok (.iload_n 2, 1) := by decide +kernel
theorem dX0_changedSince_34 : decode cX0_changedSince 34 = .ok (.iaload, 1) := by decide +kernel
theorem dX0_changedSince_35 : decode cX0_changedSince 35 = .ok (.iload 4, 2) := by decide +kernel
theorem dX0_changedSince_37 : decode cX0_changedSince 37 = .ok (.invokestatic 59, 3) := by decide +kernel
theorem dX0_changedSince_40 : decode cX0_changedSince 40 = .ok (.ifCond .eq 16, 3) := by decide +kernel
theorem dX0_changedSince_43 : decode cX0_changedSince 43 = .ok (.aload_n 0, 1) := by decide +kernel
theorem dX0_changedSince_44 : decode cX0_changedSince 44 = .ok (.iload_n 2, 1) := by decide +kernel
theorem dX0_changedSince_45 : decode cX0_changedSince 45 = .ok (.iload 4, 2) := by decide +kernel
theorem dX0_changedSince_47 : decode cX0_changedSince 47 = .ok (.invokevirtual 97, 3) := by decide +kernel
theorem dX0_changedSince_50 : decode cX0_changedSince 50 = .ok (.ifCond .ne 6, 3) := by decide +kernel
theorem dX0_changedSince_53 : decode cX0_changedSince 53 = .ok (.iinc 3 1, 3) := by decide +kernel
theorem dX0_changedSince_56 : decode cX0_changedSince 56 = .ok (.iinc 4 1, 3) := by decide +kernel
theorem dX0_changedSince_59 : decode cX0_changedSince 59 = .ok (.goto (-37), 3) := by decide +kernel
theorem dX0_changedSince_62 : decode cX0_changedSince 62 = .ok (.iload_n 3, 1) := by decide +kernel
theorem dX0_changedSince_63 : decode cX0_changedSince 63 = .ok (.ireturn, 1) := by decide +kernel
abbrev cX0_versions : ByteArray := prog_1_method_22_code
def yX0_versions : MethodName := ⟨RX0, "versions", "(I)I"⟩
theorem dX0_versions_0 : decode cX0_versions 0 = .ok (.iload_n 1, 1) := by decide +kernel
theorem dX0_versions_1 : decode cX0_versions 1 = .ok (.invokestatic 48, 3) := by decide +kernel
theorem dX0_versions_4 : decode cX0_versions 4 = .ok (.ifCond .ne 5, 3) := by decide +kernel
theorem dX0_versions_7 : decode cX0_versions 7 = .ok (.iconst (-1), 1) := by decide +kernel
theorem dX0_versions_8 : decode cX0_versions 8 = .ok (.ireturn, 1) := by decide +kernel
theorem dX0_versions_9 : decode cX0_versions 9 = .ok (.iconst 0, 1) := by decide +kernel
theorem dX0_versions_10 : decode cX0_versions 10 = .ok (.istore_n 2, 1) := by decide +kernel
theorem dX0_versions_11 : decode cX0_versions 11 = .ok (.iconst 1, 1) := by decide +kernel
theorem dX0_versions_12 : decode cX0_versions 12 = .ok (.istore_n 3, 1) := by decide +kernel
theorem dX0_versions_13 : decode cX0_versions 13 = .ok (.iload_n 3, 1) := by decide +kernel
theorem dX0_versions_14 : decode cX0_versions 14 = .ok (.aload_n 0, 1) := by decide +kernel
theorem dX0_versions_15 : decode cX0_versions 15 = .ok (.getfield 44, 3) := by decide +kernel
theorem dX0_versions_18 : decode cX0_versions 18 = .ok (.if_icmp .ge 34, 3) := by decide +kernel
theorem dX0_versions_21 : decode cX0_versions 21 = .ok (.aload_n 0, 1) := by decide +kernel
theorem dX0_versions_22 : decode cX0_versions 22 = .ok (.aload_n 0, 1) := by decide +kernel
theorem dX0_versions_23 : decode cX0_versions 23 = .ok (.getfield 13, 3) := by decide +kernel
theorem dX0_versions_26 : decode cX0_versions 26 = .ok (.iload_n 3, 1) := by decide +kernel
theorem dX0_versions_27 : decode cX0_versions 27 = .ok (.iconst 1, 1) := by decide +kernel
theorem dX0_versions_28 : decode cX0_versions 28 = .ok (.isub, 1) := by decide +kernel
theorem dX0_versions_29 : decode cX0_versions 29 = .ok (.iaload, 1) := by decide +kernel
theorem dX0_versions_30 : decode cX0_versions 30 = .ok (.aload_n 0, 1) := by decide +kernel
theorem dX0_versions_31 : decode cX0_versions 31 = .ok (.getfield 13, 3) := by decide +kernel
theorem dX0_versions_34 : decode cX0_versions 34 = .ok (.iload_n 3, 1) := by decide +kernel
theorem dX0_versions_35 : decode cX0_versions 35 = .ok (.iaload, 1) := by decide +kernel
theorem dX0_versions_36 : decode cX0_versions 36 = .ok (.iload_n 1, 1) := by decide +kernel
theorem dX0_versions_37 : decode cX0_versions 37 = .ok (.invokevirtual 93, 3) := by decide +kernel
theorem dX0_versions_40 : decode cX0_versions 40 = .ok (.ifCond .eq 6, 3) := by decide +kernel
theorem dX0_versions_43 : decode cX0_versions 43 = .ok (.iinc 2 1, 3) := by decide +kernel
theorem dX0_versions_46 : decode cX0_versions 46 = .ok (.iinc 3 1, 3) := by decide +kernel
theorem dX0_versions_49 : decode cX0_versions 49 = .ok (.goto (-36), 3) := by decide +kernel
theorem dX0_versions_52 : decode cX0_versions 52 = .ok (.iload_n 2, 1) := by decide +kernel
theorem dX0_versions_53 : decode cX0_versions 53 = .ok (.ireturn, 1) := by decide +kernel
abbrev cX0_sum : ByteArray := prog_1_method_23_code
def yX0_sum : MethodName := ⟨RX0, "sum", "(I)I"⟩
theorem dX0_sum_0 : decode cX0_sum 0 = .ok (.aload_n 0, 1) := by decide +kernel
theorem dX0_sum_1 : decode cX0_sum 1 = .ok (.iload_n 1, 1) := by decide +kernel
theorem dX0_sum_2 : decode cX0_sum 2 = .ok (.invokevirtual 75, 3) := by decide +kernel
theorem dX0_sum_5 : decode cX0_sum 5 = .ok (.ifCond .ne 5, 3) := by decide +kernel
theorem dX0_sum_8 : decode cX0_sum 8 = .ok (.iconst 0, 1) := by decide +kernel
theorem dX0_sum_9 : decode cX0_sum 9 = .ok (.ireturn, 1) := by decide +kernel
theorem dX0_sum_10 : decode cX0_sum 10 = .ok (.iconst 0, 1) := by decide +kernel
theorem dX0_sum_11 : decode cX0_sum 11 = .ok (.istore_n 2, 1) := by decide +kernel
theorem dX0_sum_12 : decode cX0_sum 12 = .ok (.iconst 0, 1) := by decide +kernel
theorem dX0_sum_13 : decode cX0_sum 13 = .ok (.istore_n 3, 1) := by decide +kernel
theorem dX0_sum_14 : decode cX0_sum 14 = .ok (.iload_n 3, 1) := by decide +kernel
theorem dX0_sum_15 : decode cX0_sum 15 = .ok (.bipush 16, 2) := by decide +kernel
theorem dX0_sum_17 : decode cX0_sum 17 = .ok (.if_icmp .ge 55, 3) := by decide +kernel
theorem dX0_sum_20 : decode cX0_sum 20 = .ok (.aload_n 0, 1) := by decide +kernel
theorem dX0_sum_21 : decode cX0_sum 21 = .ok (.aload_n 0, 1) := by decide +kernel
theorem dX0_sum_22 : decode cX0_sum 22 = .ok (.getfield 13, 3) := by decide +kernel
theorem dX0_sum_25 : decode cX0_sum 25 = .ok (.iload_n 1, 1) := by decide +kernel
theorem dX0_sum_26 : decode cX0_sum 26 = .ok (.iaload, 1) := by decide +kernel
theorem dX0_sum_27 : decode cX0_sum 27 = .ok (.iload_n 3, 1) := by decide +kernel
theorem dX0_sum_28 : decode cX0_sum 28 = .ok (.invokevirtual 90, 3) := by decide +kernel
theorem dX0_sum_31 : decode cX0_sum 31 = .ok (.istore 4, 2) := by decide +kernel
theorem dX0_sum_33 : decode cX0_sum 33 = .ok (.iload_n 2, 1) := by decide +kernel
theorem dX0_sum_34 : decode cX0_sum 34 = .ok (.aload_n 0, 1) := by decide +kernel
theorem dX0_sum_35 : decode cX0_sum 35 = .ok (.getfield 22, 3) := by decide +kernel
theorem dX0_sum_38 : decode cX0_sum 38 = .ok (.iload 4, 2) := by decide +kernel
theorem dX0_sum_40 : decode cX0_sum 40 = .ok (.iaload, 1) := by decide +kernel
theorem dX0_sum_41 : decode cX0_sum 41 = .ok (.iload_n 3, 1) := by decide +kernel
theorem dX0_sum_42 : decode cX0_sum 42 = .ok (.invokestatic 59, 3) := by decide +kernel
theorem dX0_sum_45 : decode cX0_sum 45 = .ok (.ifCond .eq 18, 3) := by decide +kernel
theorem dX0_sum_48 : decode cX0_sum 48 = .ok (.aload_n 0, 1) := by decide +kernel
theorem dX0_sum_49 : decode cX0_sum 49 = .ok (.getfield 25, 3) := by decide +kernel
theorem dX0_sum_52 : decode cX0_sum 52 = .ok (.bipush 16, 2) := by decide +kernel
theorem dX0_sum_54 : decode cX0_sum 54 = .ok (.iload 4, 2) := by decide +kernel
theorem dX0_sum_56 : decode cX0_sum 56 = .ok (.imul, 1) := by decide +kernel
theorem dX0_sum_57 : decode cX0_sum 57 = .ok (.iload_n 3, 1) := by decide +kernel
theorem dX0_sum_58 : decode cX0_sum 58 = .ok (.iadd, 1) := by decide +kernel
theorem dX0_sum_59 : decode cX0_sum 59 = .ok (.iaload, 1) := by decide +kernel
theorem dX0_sum_60 : decode cX0_sum 60 = .ok (.goto 4, 3) := by decide +kernel
theorem dX0_sum_63 : decode cX0_sum 63 = .ok (.iconst 0, 1) := by decide +kernel
theorem dX0_sum_64 : decode cX0_sum 64 = .ok (.iadd, 1) := by decide +kernel
theorem dX0_sum_65 : decode cX0_sum 65 = .ok (.istore_n 2, 1) := by decide +kernel
theorem dX0_sum_66 : decode cX0_sum 66 = .ok (.iinc 3 1, 3) := by decide +kernel
theorem dX0_sum_69 : decode cX0_sum 69 = .ok (.goto (-55), 3) := by decide +kernel
theorem dX0_sum_72 : decode cX0_sum 72 = .ok (.iload_n 2, 1) := by decide +kernel
theorem dX0_sum_73 : decode cX0_sum 73 = .ok (.ireturn, 1) := by decide +kernel
end
section
set_option maxRecDepth 100000
theorem q19 : (Jvm.Cond.initialized "SyntheticChain") ∈ lw_all := lw_g (lw_at lw_m1 1 rfl) rfl
theorem q22 : (Jvm.Cond.instantiable "SyntheticChain" (14 : Nat)) ∈ lw_all := lw_g (lw_at lw_m1 4 rfl) rfl
theorem q24 : (Jvm.Cond.instanceMethod ({ cls := "SyntheticChain", name := "<init>", desc := "()V" } : Jvm.MethodName)) ∈ lw_all := lw_g (lw_at lw_m1 6 rfl) rfl
theorem q25 : (Jvm.Cond.code ({ cls := "SyntheticChain", name := "<init>", desc := "()V" } : Jvm.MethodName) prog_1_method_1_code (1 : Nat) (Option.none : Option Jvm.ClassFile.FieldType)) ∈ lw_all := lw_g (lw_at lw_m1 7 rfl) rfl
theorem q26 : (Jvm.Cond.methodLink "SyntheticChain" (1 : Nat) ({ cls := "java/lang/Object", name := "<init>", desc := "()V" } : Jvm.MethodName)) ∈ lw_all := lw_g (lw_at lw_m1 8 rfl) rfl
theorem q29 : (Jvm.Cond.fieldLink "SyntheticChain" (7 : Nat) "SyntheticChain" "liveContent" "[I") ∈ lw_all := lw_g (lw_at lw_m1 11 rfl) rfl
theorem q30 : (Jvm.Cond.fieldLink "SyntheticChain" (13 : Nat) "SyntheticChain" "order" "[I") ∈ lw_all := lw_g (lw_at lw_m1 12 rfl) rfl
theorem q31 : (Jvm.Cond.fieldLink "SyntheticChain" (16 : Nat) "SyntheticChain" "base" "[I") ∈ lw_all := lw_g (lw_at lw_m1 13 rfl) rfl
theorem q32 : (Jvm.Cond.fieldLink "SyntheticChain" (19 : Nat) "SyntheticChain" "entries" "[I") ∈ lw_all := lw_g (lw_at lw_m1 14 rfl) rfl
theorem q33 : (Jvm.Cond.fieldLink "SyntheticChain" (22 : Nat) "SyntheticChain" "present" "[I") ∈ lw_all := lw_g (lw_at lw_m1 15 rfl) rfl
theorem q34 : (Jvm.Cond.fieldLink "SyntheticChain" (25 : Nat) "SyntheticChain" "contents" "[I") ∈ lw_all := lw_g (lw_at lw_m1 16 rfl) rfl
theorem q35 : (Jvm.Cond.fieldLink "SyntheticChain" (28 : Nat) "SyntheticChain" "days" "[I") ∈ lw_all := lw_g (lw_at lw_m1 17 rfl) rfl
theorem q36 : (Jvm.Cond.fieldLink "SyntheticChain" (31 : Nat) "SyntheticChain" "pins" "[Z") ∈ lw_all := lw_g (lw_at lw_m1 18 rfl) rfl
theorem q37 : (Jvm.Cond.fieldLink "SyntheticChain" (35 : Nat) "SyntheticChain" "touched" "[I") ∈ lw_all := lw_g (lw_at lw_m1 19 rfl) rfl
theorem q38 : (Jvm.Cond.fieldLink "SyntheticChain" (38 : Nat) "SyntheticChain" "taken" "[Z") ∈ lw_all := lw_g (lw_at lw_m1 20 rfl) rfl
theorem q39 : (Jvm.Cond.fieldLink "SyntheticChain" (41 : Nat) "SyntheticChain" "keep" "[Z") ∈ lw_all := lw_g (lw_at lw_m1 21 rfl) rfl
theorem q40 : (Jvm.Cond.fieldLink "SyntheticChain" (52 : Nat) "SyntheticChain" "liveMask" "I") ∈ lw_all := lw_g (lw_at lw_m1 22 rfl) rfl
theorem q41 : (Jvm.Cond.fieldLink "SyntheticChain" (44 : Nat) "SyntheticChain" "count" "I") ∈ lw_all := lw_g (lw_at lw_m1 23 rfl) rfl
theorem q42 : (Jvm.Cond.fieldLink "SyntheticChain" (63 : Nat) "SyntheticChain" "today" "I") ∈ lw_all := lw_g (lw_at lw_m1 24 rfl) rfl
theorem q43 : (Jvm.Cond.laysFinal "SyntheticChain" "SyntheticChain" "liveContent" "[I") ∈ lw_all := lw_g (lw_at lw_m1 25 rfl) rfl
theorem q44 : (Jvm.Cond.soleField "SyntheticChain" "liveContent") ∈ lw_all := lw_g (lw_at lw_m1 26 rfl) rfl
theorem q45 : (Jvm.Cond.laysFinal "SyntheticChain" "SyntheticChain" "order" "[I") ∈ lw_all := lw_g (lw_at lw_m1 27 rfl) rfl
theorem q46 : (Jvm.Cond.soleField "SyntheticChain" "order") ∈ lw_all := lw_g (lw_at lw_m1 28 rfl) rfl
theorem q47 : (Jvm.Cond.laysFinal "SyntheticChain" "SyntheticChain" "base" "[I") ∈ lw_all := lw_g (lw_at lw_m1 29 rfl) rfl
theorem q48 : (Jvm.Cond.soleField "SyntheticChain" "base") ∈ lw_all := lw_g (lw_at lw_m1 30 rfl) rfl
theorem q49 : (Jvm.Cond.laysFinal "SyntheticChain" "SyntheticChain" "entries" "[I") ∈ lw_all := lw_g (lw_at lw_m1 31 rfl) rfl
theorem q50 : (Jvm.Cond.soleField "SyntheticChain" "entries") ∈ lw_all := lw_g (lw_at lw_m1 32 rfl) rfl
theorem q51 : (Jvm.Cond.laysFinal "SyntheticChain" "SyntheticChain" "present" "[I") ∈ lw_all := lw_g (lw_at lw_m1 33 rfl) rfl
theorem q52 : (Jvm.Cond.soleField "SyntheticChain" "present") ∈ lw_all := lw_g (lw_at lw_m1 34 rfl) rfl
theorem q53 : (Jvm.Cond.laysFinal "SyntheticChain" "SyntheticChain" "contents" "[I") ∈ lw_all := lw_g (lw_at lw_m1 35 rfl) rfl
theorem q54 : (Jvm.Cond.soleField "SyntheticChain" "contents") ∈ lw_all := lw_g (lw_at lw_m1 36 rfl) rfl
theorem q55 : (Jvm.Cond.laysFinal "SyntheticChain" "SyntheticChain" "days" "[I") ∈ lw_all := lw_g (lw_at lw_m1 37 rfl) rfl
theorem q56 : (Jvm.Cond.soleField "SyntheticChain" "days") ∈ lw_all := lw_g (lw_at lw_m1 38 rfl) rfl
theorem q57 : (Jvm.Cond.laysFinal "SyntheticChain" "SyntheticChain" "pins" "[Z") ∈ lw_all := lw_g (lw_at lw_m1 39 rfl) rfl
theorem q58 : (Jvm.Cond.soleField "SyntheticChain" "pins") ∈ lw_all := lw_g (lw_at lw_m1 40 rfl) rfl
theorem q59 : (Jvm.Cond.laysFinal "SyntheticChain" "SyntheticChain" "touched" "[I") ∈ lw_all := lw_g (lw_at lw_m1 41 rfl) rfl
theorem q60 : (Jvm.Cond.soleField "SyntheticChain" "touched") ∈ lw_all := lw_g (lw_at lw_m1 42 rfl) rfl
theorem q61 : (Jvm.Cond.laysFinal "SyntheticChain" "SyntheticChain" "taken" "[Z") ∈ lw_all := lw_g (lw_at lw_m1 43 rfl) rfl
theorem q62 : (Jvm.Cond.soleField "SyntheticChain" "taken") ∈ lw_all := lw_g (lw_at lw_m1 44 rfl) rfl
theorem q63 : (Jvm.Cond.laysFinal "SyntheticChain" "SyntheticChain" "keep" "[Z") ∈ lw_all := lw_g (lw_at lw_m1 45 rfl) rfl
theorem q64 : (Jvm.Cond.soleField "SyntheticChain" "keep") ∈ lw_all := lw_g (lw_at lw_m1 46 rfl) rfl
theorem q65 : (Jvm.Cond.lays "SyntheticChain" "SyntheticChain" "liveMask" "I") ∈ lw_all := lw_g (lw_at lw_m1 47 rfl) rfl
theorem q66 : (Jvm.Cond.soleField "SyntheticChain" "liveMask") ∈ lw_all := lw_g (lw_at lw_m1 48 rfl) rfl
theorem q67 : (Jvm.Cond.lays "SyntheticChain" "SyntheticChain" "count" "I") ∈ lw_all := lw_g (lw_at lw_m1 49 rfl) rfl
theorem q68 : (Jvm.Cond.soleField "SyntheticChain" "count") ∈ lw_all := lw_g (lw_at lw_m1 50 rfl) rfl
theorem q69 : (Jvm.Cond.lays "SyntheticChain" "SyntheticChain" "today" "I") ∈ lw_all := lw_g (lw_at lw_m1 51 rfl) rfl
theorem q70 : (Jvm.Cond.soleField "SyntheticChain" "today") ∈ lw_all := lw_g (lw_at lw_m1 52 rfl) rfl
theorem q71 : (Jvm.Cond.superclass "SyntheticChain" "java/lang/Object") ∈ lw_all := lw_g (lw_at lw_m1 53 rfl) rfl
theorem q75 : (Jvm.Cond.instanceMethod ({ cls := "SyntheticChain", name := "put", desc := "(II)I" } : Jvm.MethodName)) ∈ lw_all := lw_g (lw_at lw_m1 57 rfl) rfl
theorem q76 : (Jvm.Cond.selects "SyntheticChain" ({ cls := "SyntheticChain", name := "put", desc := "(II)I" } : Jvm.MethodName) ({ cls := "SyntheticChain", name := "put", desc := "(II)I" } : Jvm.MethodName)) ∈ lw_all := lw_g (lw_at lw_m1 58 rfl) rfl
theorem q77 : (Jvm.Cond.code ({ cls := "SyntheticChain", name := "put", desc := "(II)I" } : Jvm.MethodName) prog_1_method_2_code (4 : Nat) (Option.some Jvm.ClassFile.FieldType.int)) ∈ lw_all := lw_g (lw_at lw_m1 59 rfl) rfl
theorem q78 : (Jvm.Cond.methodLink "SyntheticChain" (48 : Nat) ({ cls := "SyntheticChain", name := "isFile", desc := "(I)Z" } : Jvm.MethodName)) ∈ lw_all := lw_g (lw_at lw_m1 60 rfl) rfl
theorem q79 : (Jvm.Cond.static ({ cls := "SyntheticChain", name := "isFile", desc := "(I)Z" } : Jvm.MethodName)) ∈ lw_all := lw_g (lw_at lw_m1 61 rfl) rfl
theorem q80 : (Jvm.Cond.code ({ cls := "SyntheticChain", name := "isFile", desc := "(I)Z" } : Jvm.MethodName) prog_1_method_24_code (1 : Nat) (Option.some Jvm.ClassFile.FieldType.boolean)) ∈ lw_all := lw_g (lw_at lw_m1 62 rfl) rfl
theorem q81 : (Jvm.Cond.methodLink "SyntheticChain" (55 : Nat) ({ cls := "SyntheticChain", name := "setLive", desc := "(IZI)V" } : Jvm.MethodName)) ∈ lw_all := lw_g (lw_at lw_m1 63 rfl) rfl
theorem q82 : (Jvm.Cond.privateMethod ({ cls := "SyntheticChain", name := "setLive", desc := "(IZI)V" } : Jvm.MethodName)) ∈ lw_tbl := lw_at lw_m1 64 rfl
theorem q83 : (Jvm.Cond.instanceMethod ({ cls := "SyntheticChain", name := "setLive", desc := "(IZI)V" } : Jvm.MethodName)) ∈ lw_all := lw_g (lw_at lw_m1 65 rfl) rfl
theorem q84 : (Jvm.Cond.code ({ cls := "SyntheticChain", name := "setLive", desc := "(IZI)V" } : Jvm.MethodName) prog_1_method_27_code (6 : Nat) (Option.none : Option Jvm.ClassFile.FieldType)) ∈ lw_all := lw_g (lw_at lw_m1 66 rfl) rfl
theorem q85 : (Jvm.Cond.methodLink "SyntheticChain" (59 : Nat) ({ cls := "SyntheticChain", name := "has", desc := "(II)Z" } : Jvm.MethodName)) ∈ lw_all := lw_g (lw_at lw_m1 67 rfl) rfl
theorem q86 : (Jvm.Cond.static ({ cls := "SyntheticChain", name := "has", desc := "(II)Z" } : Jvm.MethodName)) ∈ lw_all := lw_g (lw_at lw_m1 68 rfl) rfl
theorem q87 : (Jvm.Cond.code ({ cls := "SyntheticChain", name := "has", desc := "(II)Z" } : Jvm.MethodName) prog_1_method_26_code (2 : Nat) (Option.some Jvm.ClassFile.FieldType.boolean)) ∈ lw_all := lw_g (lw_at lw_m1 69 rfl) rfl
theorem q89 : (Jvm.Cond.instanceMethod ({ cls := "SyntheticChain", name := "delete", desc := "(I)I" } : Jvm.MethodName)) ∈ lw_all := lw_g (lw_at lw_m1 71 rfl) rfl
theorem q90 : (Jvm.Cond.selects "SyntheticChain" ({ cls := "SyntheticChain", name := "delete", desc := "(I)I" } : Jvm.MethodName) ({ cls := "SyntheticChain", name := "delete", desc := "(I)I" } : Jvm.MethodName)) ∈ lw_all := lw_g (lw_at lw_m1 72 rfl) rfl
theorem q91 : (Jvm.Cond.code ({ cls := "SyntheticChain", name := "delete", desc := "(I)I" } : Jvm.MethodName) prog_1_method_3_code (3 : Nat) (Option.some Jvm.ClassFile.FieldType.int)) ∈ lw_all := lw_g (lw_at lw_m1 73 rfl) rfl
theorem q93 : (Jvm.Cond.instanceMethod ({ cls := "SyntheticChain", name := "rename", desc := "(II)I" } : Jvm.MethodName)) ∈ lw_all := lw_g (lw_at lw_m1 75 rfl) rfl
theorem q94 : (Jvm.Cond.selects "SyntheticChain" ({ cls := "SyntheticChain", name := "rename", desc := "(II)I" } : Jvm.MethodName) ({ cls := "SyntheticChain", name := "rename", desc := "(II)I" } : Jvm.MethodName)) ∈ lw_all := lw_g (lw_at lw_m1 76 rfl) rfl
theorem q95 : (Jvm.Cond.code ({ cls := "SyntheticChain", name := "rename", desc := "(II)I" } : Jvm.MethodName) prog_1_method_4_code (3 : Nat) (Option.some Jvm.ClassFile.FieldType.int)) ∈ lw_all := lw_g (lw_at lw_m1 77 rfl) rfl
theorem q97 : (Jvm.Cond.instanceMethod ({ cls := "SyntheticChain", name := "rewrite", desc := "(III)I" } : Jvm.MethodName)) ∈ lw_all := lw_g (lw_at lw_m1 79 rfl) rfl
theorem q98 : (Jvm.Cond.selects "SyntheticChain" ({ cls := "SyntheticChain", name := "rewrite", desc := "(III)I" } : Jvm.MethodName) ({ cls := "SyntheticChain", name := "rewrite", desc := "(III)I" } : Jvm.MethodName)) ∈ lw_all := lw_g (lw_at lw_m1 80 rfl) rfl
theorem q99 : (Jvm.Cond.code ({ cls := "SyntheticChain", name := "rewrite", desc := "(III)I" } : Jvm.MethodName) prog_1_method_5_code (6 : Nat) (Option.some Jvm.ClassFile.FieldType.int)) ∈ lw_all := lw_g (lw_at lw_m1 81 rfl) rfl
theorem q101 : (Jvm.Cond.instanceMethod ({ cls := "SyntheticChain", name := "advance", desc := "(I)I" } : Jvm.MethodName)) ∈ lw_all := lw_g (lw_at lw_m1 83 rfl) rfl
theorem q102 : (Jvm.Cond.selects "SyntheticChain" ({ cls := "SyntheticChain", name := "advance", desc := "(I)I" } : Jvm.MethodName) ({ cls := "SyntheticChain", name := "advance", desc := "(I)I" } : Jvm.MethodName)) ∈ lw_all := lw_g (lw_at lw_m1 84 rfl) rfl
theorem q103 : (Jvm.Cond.code ({ cls := "SyntheticChain", name := "advance", desc := "(I)I" } : Jvm.MethodName) prog_1_method_6_code (2 : Nat) (Option.some Jvm.ClassFile.FieldType.int)) ∈ lw_all := lw_g (lw_at lw_m1 85 rfl) rfl
theorem q105 : (Jvm.Cond.instanceMethod ({ cls := "SyntheticChain", name := "take", desc := "(I)I" } : Jvm.MethodName)) ∈ lw_all := lw_g (lw_at lw_m1 87 rfl) rfl
theorem q106 : (Jvm.Cond.selects "SyntheticChain" ({ cls := "SyntheticChain", name := "take", desc := "(I)I" } : Jvm.MethodName) ({ cls := "SyntheticChain", name := "take", desc := "(I)I" } : Jvm.MethodName)) ∈ lw_all := lw_g (lw_at lw_m1 88 rfl) rfl
theorem q107 : (Jvm.Cond.code ({ cls := "SyntheticChain", name := "take", desc := "(I)I" } : Jvm.MethodName) prog_1_method_7_code (5 : Nat) (Option.some Jvm.ClassFile.FieldType.int)) ∈ lw_all := lw_g (lw_at lw_m1 89 rfl) rfl
theorem q108 : (Jvm.Cond.methodLink "SyntheticChain" (66 : Nat) ({ cls := "SyntheticChain", name := "freeSlot", desc := "()I" } : Jvm.MethodName)) ∈ lw_all := lw_g (lw_at lw_m1 90 rfl) rfl
theorem q109 : (Jvm.Cond.privateMethod ({ cls := "SyntheticChain", name := "freeSlot", desc := "()I" } : Jvm.MethodName)) ∈ lw_tbl := lw_at lw_m1 91 rfl
theorem q110 : (Jvm.Cond.instanceMethod ({ cls := "SyntheticChain", name := "freeSlot", desc := "()I" } : Jvm.MethodName)) ∈ lw_all := lw_g (lw_at lw_m1 92 rfl) rfl
theorem q111 : (Jvm.Cond.code ({ cls := "SyntheticChain", name := "freeSlot", desc := "()I" } : Jvm.MethodName) prog_1_method_28_code (2 : Nat) (Option.some Jvm.ClassFile.FieldType.int)) ∈ lw_all := lw_g (lw_at lw_m1 93 rfl) rfl
theorem q112 : (Jvm.Cond.methodLink "SyntheticChain" (70 : Nat) ({ cls := "SyntheticChain", name := "baseFor", desc := "(I)I" } : Jvm.MethodName)) ∈ lw_all := lw_g (lw_at lw_m1 94 rfl) rfl
theorem q113 : (Jvm.Cond.privateMethod ({ cls := "SyntheticChain", name := "baseFor", desc := "(I)I" } : Jvm.MethodName)) ∈ lw_tbl := lw_at lw_m1 95 rfl
theorem q114 : (Jvm.Cond.instanceMethod ({ cls := "SyntheticChain", name := "baseFor", desc := "(I)I" } : Jvm.MethodName)) ∈ lw_all := lw_g (lw_at lw_m1 96 rfl) rfl
theorem q115 : (Jvm.Cond.code ({ cls := "SyntheticChain", name := "baseFor", desc := "(I)I" } : Jvm.MethodName) prog_1_method_29_code (3 : Nat) (Option.some Jvm.ClassFile.FieldType.int)) ∈ lw_all := lw_g (lw_at lw_m1 97 rfl) rfl
theorem q116 : (Jvm.Cond.constant "SyntheticChain" (74 : Nat) (65535 : Int32)) ∈ lw_all := lw_g (lw_at lw_m1 98 rfl) rfl
theorem q118 : (Jvm.Cond.instanceMethod ({ cls := "SyntheticChain", name := "restore", desc := "(I)I" } : Jvm.MethodName)) ∈ lw_all := lw_g (lw_at lw_m1 100 rfl) rfl
theorem q119 : (Jvm.Cond.selects "SyntheticChain" ({ cls := "SyntheticChain", name := "restore", desc := "(I)I" } : Jvm.MethodName) ({ cls := "SyntheticChain", name := "restore", desc := "(I)I" } : Jvm.MethodName)) ∈ lw_all := lw_g (lw_at lw_m1 101 rfl) rfl
theorem q120 : (Jvm.Cond.code ({ cls := "SyntheticChain", name := "restore", desc := "(I)I" } : Jvm.MethodName) prog_1_method_8_code (4 : Nat) (Option.some Jvm.ClassFile.FieldType.int)) ∈ lw_all := lw_g (lw_at lw_m1 102 rfl) rfl
theorem q121 : (Jvm.Cond.methodLink "SyntheticChain" (75 : Nat) ({ cls := "SyntheticChain", name := "isPoint", desc := "(I)Z" } : Jvm.MethodName)) ∈ lw_all := lw_g (lw_at lw_m1 103 rfl) rfl
theorem q122 : (Jvm.Cond.privateMethod ({ cls := "SyntheticChain", name := "isPoint", desc := "(I)Z" } : Jvm.MethodName)) ∈ lw_tbl := lw_at lw_m1 104 rfl
theorem q123 : (Jvm.Cond.instanceMethod ({ cls := "SyntheticChain", name := "isPoint", desc := "(I)Z" } : Jvm.MethodName)) ∈ lw_all := lw_g (lw_at lw_m1 105 rfl) rfl
theorem q124 : (Jvm.Cond.code ({ cls := "SyntheticChain", name := "isPoint", desc := "(I)Z" } : Jvm.MethodName) prog_1_method_25_code (2 : Nat) (Option.some Jvm.ClassFile.FieldType.boolean)) ∈ lw_all := lw_g (lw_at lw_m1 106 rfl) rfl
theorem q125 : (Jvm.Cond.methodLink "SyntheticChain" (78 : Nat) ({ cls := "SyntheticChain", name := "bring", desc := "(II)I" } : Jvm.MethodName)) ∈ lw_all := lw_g (lw_at lw_m1 107 rfl) rfl
theorem q126 : (Jvm.Cond.privateMethod ({ cls := "SyntheticChain", name := "bring", desc := "(II)I" } : Jvm.MethodName)) ∈ lw_tbl := lw_at lw_m1 108 rfl
theorem q127 : (Jvm.Cond.instanceMethod ({ cls := "SyntheticChain", name := "bring", desc := "(II)I" } : Jvm.MethodName)) ∈ lw_all := lw_g (lw_at lw_m1 109 rfl) rfl
theorem q128 : (Jvm.Cond.code ({ cls := "SyntheticChain", name := "bring", desc := "(II)I" } : Jvm.MethodName) prog_1_method_32_code (4 : Nat) (Option.some Jvm.ClassFile.FieldType.int)) ∈ lw_all := lw_g (lw_at lw_m1 110 rfl) rfl
theorem q129 : (Jvm.Cond.methodLink "SyntheticChain" (97 : Nat) ({ cls := "SyntheticChain", name := "isLive", desc := "(II)Z" } : Jvm.MethodName)) ∈ lw_all := lw_g (lw_at lw_m1 111 rfl) rfl
theorem q130 : (Jvm.Cond.privateMethod ({ cls := "SyntheticChain", name := "isLive", desc := "(II)Z" } : Jvm.MethodName)) ∈ lw_tbl := lw_at lw_m1 112 rfl
theorem q131 : (Jvm.Cond.instanceMethod ({ cls := "SyntheticChain", name := "isLive", desc := "(II)Z" } : Jvm.MethodName)) ∈ lw_all := lw_g (lw_at lw_m1 113 rfl) rfl
theorem q132 : (Jvm.Cond.code ({ cls := "SyntheticChain", name := "isLive", desc := "(II)Z" } : Jvm.MethodName) prog_1_method_31_code (4 : Nat) (Option.some Jvm.ClassFile.FieldType.boolean)) ∈ lw_all := lw_g (lw_at lw_m1 114 rfl) rfl
theorem q133 : (Jvm.Cond.methodLink "SyntheticChain" (90 : Nat) ({ cls := "SyntheticChain", name := "holder", desc := "(II)I" } : Jvm.MethodName)) ∈ lw_all := lw_g (lw_at lw_m1 115 rfl) rfl
theorem q134 : (Jvm.Cond.privateMethod ({ cls := "SyntheticChain", name := "holder", desc := "(II)I" } : Jvm.MethodName)) ∈ lw_tbl := lw_at lw_m1 116 rfl
theorem q135 : (Jvm.Cond.instanceMethod ({ cls := "SyntheticChain", name := "holder", desc := "(II)I" } : Jvm.MethodName)) ∈ lw_all := lw_g (lw_at lw_m1 117 rfl) rfl
theorem q136 : (Jvm.Cond.code ({ cls := "SyntheticChain", name := "holder", desc := "(II)I" } : Jvm.MethodName) prog_1_method_30_code (5 : Nat) (Option.some Jvm.ClassFile.FieldType.int)) ∈ lw_all := lw_g (lw_at lw_m1 118 rfl) rfl
theorem q138 : (Jvm.Cond.instanceMethod ({ cls := "SyntheticChain", name := "restoreFile", desc := "(II)I" } : Jvm.MethodName)) ∈ lw_all := lw_g (lw_at lw_m1 120 rfl) rfl
theorem q139 : (Jvm.Cond.selects "SyntheticChain" ({ cls := "SyntheticChain", name := "restoreFile", desc := "(II)I" } : Jvm.MethodName) ({ cls := "SyntheticChain", name := "restoreFile", desc := "(II)I" } : Jvm.MethodName)) ∈ lw_all := lw_g (lw_at lw_m1 121 rfl) rfl
theorem q140 : (Jvm.Cond.code ({ cls := "SyntheticChain", name := "restoreFile", desc := "(II)I" } : Jvm.MethodName) prog_1_method_9_code (3 : Nat) (Option.some Jvm.ClassFile.FieldType.int)) ∈ lw_all := lw_g (lw_at lw_m1 122 rfl) rfl
theorem q142 : (Jvm.Cond.instanceMethod ({ cls := "SyntheticChain", name := "pin", desc := "(II)I" } : Jvm.MethodName)) ∈ lw_all := lw_g (lw_at lw_m1 124 rfl) rfl
theorem q143 : (Jvm.Cond.selects "SyntheticChain" ({ cls := "SyntheticChain", name := "pin", desc := "(II)I" } : Jvm.MethodName) ({ cls := "SyntheticChain", name := "pin", desc := "(II)I" } : Jvm.MethodName)) ∈ lw_all := lw_g (lw_at lw_m1 125 rfl) rfl
theorem q144 : (Jvm.Cond.code ({ cls := "SyntheticChain", name := "pin", desc := "(II)I" } : Jvm.MethodName) prog_1_method_10_code (4 : Nat) (Option.some Jvm.ClassFile.FieldType.int)) ∈ lw_all := lw_g (lw_at lw_m1 126 rfl) rfl
theorem q146 : (Jvm.Cond.instanceMethod ({ cls := "SyntheticChain", name := "forget", desc := "(I)I" } : Jvm.MethodName)) ∈ lw_all := lw_g (lw_at lw_m1 128 rfl) rfl
theorem q147 : (Jvm.Cond.selects "SyntheticChain" ({ cls := "SyntheticChain", name := "forget", desc := "(I)I" } : Jvm.MethodName) ({ cls := "SyntheticChain", name := "forget", desc := "(I)I" } : Jvm.MethodName)) ∈ lw_all := lw_g (lw_at lw_m1 129 rfl) rfl
theorem q148 : (Jvm.Cond.code ({ cls := "SyntheticChain", name := "forget", desc := "(I)I" } : Jvm.MethodName) prog_1_method_11_code (2 : Nat) (Option.some Jvm.ClassFile.FieldType.int)) ∈ lw_all := lw_g (lw_at lw_m1 130 rfl) rfl
theorem q149 : (Jvm.Cond.methodLink "SyntheticChain" (82 : Nat) ({ cls := "SyntheticChain", name := "drop", desc := "(I)V" } : Jvm.MethodName)) ∈ lw_all := lw_g (lw_at lw_m1 131 rfl) rfl
theorem q150 : (Jvm.Cond.privateMethod ({ cls := "SyntheticChain", name := "drop", desc := "(I)V" } : Jvm.MethodName)) ∈ lw_tbl := lw_at lw_m1 132 rfl
theorem q151 : (Jvm.Cond.instanceMethod ({ cls := "SyntheticChain", name := "drop", desc := "(I)V" } : Jvm.MethodName)) ∈ lw_all := lw_g (lw_at lw_m1 133 rfl) rfl
theorem q152 : (Jvm.Cond.code ({ cls := "SyntheticChain", name := "drop", desc := "(I)V" } : Jvm.MethodName) prog_1_method_34_code (6 : Nat) (Option.none : Option Jvm.ClassFile.FieldType)) ∈ lw_all := lw_g (lw_at lw_m1 134 rfl) rfl
theorem q154 : (Jvm.Cond.instanceMethod ({ cls := "SyntheticChain", name := "prune", desc := "(I)I" } : Jvm.MethodName)) ∈ lw_all := lw_g (lw_at lw_m1 136 rfl) rfl
theorem q155 : (Jvm.Cond.selects "SyntheticChain" ({ cls := "SyntheticChain", name := "prune", desc := "(I)I" } : Jvm.MethodName) ({ cls := "SyntheticChain", name := "prune", desc := "(I)I" } : Jvm.MethodName)) ∈ lw_all := lw_g (lw_at lw_m1 137 rfl) rfl
theorem q156 : (Jvm.Cond.code ({ cls := "SyntheticChain", name := "prune", desc := "(I)I" } : Jvm.MethodName) prog_1_method_12_code (4 : Nat) (Option.some Jvm.ClassFile.FieldType.int)) ∈ lw_all := lw_g (lw_at lw_m1 138 rfl) rfl
theorem q157 : (Jvm.Cond.methodLink "SyntheticChain" (86 : Nat) ({ cls := "SyntheticChain", name := "keepHeads", desc := "(II)V" } : Jvm.MethodName)) ∈ lw_all := lw_g (lw_at lw_m1 139 rfl) rfl
theorem q158 : (Jvm.Cond.privateMethod ({ cls := "SyntheticChain", name := "keepHeads", desc := "(II)V" } : Jvm.MethodName)) ∈ lw_tbl := lw_at lw_m1 140 rfl
theorem q159 : (Jvm.Cond.instanceMethod ({ cls := "SyntheticChain", name := "keepHeads", desc := "(II)V" } : Jvm.MethodName)) ∈ lw_all := lw_g (lw_at lw_m1 141 rfl) rfl
theorem q160 : (Jvm.Cond.code ({ cls := "SyntheticChain", name := "keepHeads", desc := "(II)V" } : Jvm.MethodName) prog_1_method_35_code (7 : Nat) (Option.none : Option Jvm.ClassFile.FieldType)) ∈ lw_all := lw_g (lw_at lw_m1 142 rfl) rfl
theorem q162 : (Jvm.Cond.instanceMethod ({ cls := "SyntheticChain", name := "points", desc := "()I" } : Jvm.MethodName)) ∈ lw_all := lw_g (lw_at lw_m1 144 rfl) rfl
theorem q163 : (Jvm.Cond.selects "SyntheticChain" ({ cls := "SyntheticChain", name := "points", desc := "()I" } : Jvm.MethodName) ({ cls := "SyntheticChain", name := "points", desc := "()I" } : Jvm.MethodName)) ∈ lw_all := lw_g (lw_at lw_m1 145 rfl) rfl
theorem q164 : (Jvm.Cond.code ({ cls := "SyntheticChain", name := "points", desc := "()I" } : Jvm.MethodName) prog_1_method_13_code (1 : Nat) (Option.some Jvm.ClassFile.FieldType.int)) ∈ lw_all := lw_g (lw_at lw_m1 146 rfl) rfl
theorem q166 : (Jvm.Cond.instanceMethod ({ cls := "SyntheticChain", name := "dayOf", desc := "(I)I" } : Jvm.MethodName)) ∈ lw_all := lw_g (lw_at lw_m1 148 rfl) rfl
theorem q167 : (Jvm.Cond.selects "SyntheticChain" ({ cls := "SyntheticChain", name := "dayOf", desc := "(I)I" } : Jvm.MethodName) ({ cls := "SyntheticChain", name := "dayOf", desc := "(I)I" } : Jvm.MethodName)) ∈ lw_all := lw_g (lw_at lw_m1 149 rfl) rfl
theorem q168 : (Jvm.Cond.code ({ cls := "SyntheticChain", name := "dayOf", desc := "(I)I" } : Jvm.MethodName) prog_1_method_14_code (2 : Nat) (Option.some Jvm.ClassFile.FieldType.int)) ∈ lw_all := lw_g (lw_at lw_m1 150 rfl) rfl
theorem q170 : (Jvm.Cond.instanceMethod ({ cls := "SyntheticChain", name := "pinned", desc := "(I)I" } : Jvm.MethodName)) ∈ lw_all := lw_g (lw_at lw_m1 152 rfl) rfl
theorem q171 : (Jvm.Cond.selects "SyntheticChain" ({ cls := "SyntheticChain", name := "pinned", desc := "(I)I" } : Jvm.MethodName) ({ cls := "SyntheticChain", name := "pinned", desc := "(I)I" } : Jvm.MethodName)) ∈ lw_all := lw_g (lw_at lw_m1 153 rfl) rfl
theorem q172 : (Jvm.Cond.code ({ cls := "SyntheticChain", name := "pinned", desc := "(I)I" } : Jvm.MethodName) prog_1_method_15_code (2 : Nat) (Option.some Jvm.ClassFile.FieldType.int)) ∈ lw_all := lw_g (lw_at lw_m1 154 rfl) rfl
theorem q174 : (Jvm.Cond.instanceMethod ({ cls := "SyntheticChain", name := "there", desc := "(II)I" } : Jvm.MethodName)) ∈ lw_all := lw_g (lw_at lw_m1 156 rfl) rfl
theorem q175 : (Jvm.Cond.selects "SyntheticChain" ({ cls := "SyntheticChain", name := "there", desc := "(II)I" } : Jvm.MethodName) ({ cls := "SyntheticChain", name := "there", desc := "(II)I" } : Jvm.MethodName)) ∈ lw_all := lw_g (lw_at lw_m1 157 rfl) rfl
theorem q176 : (Jvm.Cond.code ({ cls := "SyntheticChain", name := "there", desc := "(II)I" } : Jvm.MethodName) prog_1_method_16_code (4 : Nat) (Option.some Jvm.ClassFile.FieldType.int)) ∈ lw_all := lw_g (lw_at lw_m1 158 rfl) rfl
theorem q178 : (Jvm.Cond.instanceMethod ({ cls := "SyntheticChain", name := "content", desc := "(II)I" } : Jvm.MethodName)) ∈ lw_all := lw_g (lw_at lw_m1 160 rfl) rfl
theorem q179 : (Jvm.Cond.selects "SyntheticChain" ({ cls := "SyntheticChain", name := "content", desc := "(II)I" } : Jvm.MethodName) ({ cls := "SyntheticChain", name := "content", desc := "(II)I" } : Jvm.MethodName)) ∈ lw_all := lw_g (lw_at lw_m1 161 rfl) rfl
theorem q180 : (Jvm.Cond.code ({ cls := "SyntheticChain", name := "content", desc := "(II)I" } : Jvm.MethodName) prog_1_method_17_code (4 : Nat) (Option.some Jvm.ClassFile.FieldType.int)) ∈ lw_all := lw_g (lw_at lw_m1 162 rfl) rfl
theorem q182 : (Jvm.Cond.instanceMethod ({ cls := "SyntheticChain", name := "liveThere", desc := "(I)I" } : Jvm.MethodName)) ∈ lw_all := lw_g (lw_at lw_m1 164 rfl) rfl
theorem q183 : (Jvm.Cond.selects "SyntheticChain" ({ cls := "SyntheticChain", name := "liveThere", desc := "(I)I" } : Jvm.MethodName) ({ cls := "SyntheticChain", name := "liveThere", desc := "(I)I" } : Jvm.MethodName)) ∈ lw_all := lw_g (lw_at lw_m1 165 rfl) rfl
theorem q184 : (Jvm.Cond.code ({ cls := "SyntheticChain", name := "liveThere", desc := "(I)I" } : Jvm.MethodName) prog_1_method_18_code (2 : Nat) (Option.some Jvm.ClassFile.FieldType.int)) ∈ lw_all := lw_g (lw_at lw_m1 166 rfl) rfl
theorem q186 : (Jvm.Cond.instanceMethod ({ cls := "SyntheticChain", name := "live", desc := "(I)I" } : Jvm.MethodName)) ∈ lw_all := lw_g (lw_at lw_m1 168 rfl) rfl
theorem q187 : (Jvm.Cond.selects "SyntheticChain" ({ cls := "SyntheticChain", name := "live", desc := "(I)I" } : Jvm.MethodName) ({ cls := "SyntheticChain", name := "live", desc := "(I)I" } : Jvm.MethodName)) ∈ lw_all := lw_g (lw_at lw_m1 169 rfl) rfl
theorem q188 : (Jvm.Cond.code ({ cls := "SyntheticChain", name := "live", desc := "(I)I" } : Jvm.MethodName) prog_1_method_19_code (2 : Nat) (Option.some Jvm.ClassFile.FieldType.int)) ∈ lw_all := lw_g (lw_at lw_m1 170 rfl) rfl
theorem q190 : (Jvm.Cond.instanceMethod ({ cls := "SyntheticChain", name := "differing", desc := "(II)I" } : Jvm.MethodName)) ∈ lw_all := lw_g (lw_at lw_m1 172 rfl) rfl
theorem q191 : (Jvm.Cond.selects "SyntheticChain" ({ cls := "SyntheticChain", name := "differing", desc := "(II)I" } : Jvm.MethodName) ({ cls := "SyntheticChain", name := "differing", desc := "(II)I" } : Jvm.MethodName)) ∈ lw_all := lw_g (lw_at lw_m1 173 rfl) rfl
theorem q192 : (Jvm.Cond.code ({ cls := "SyntheticChain", name := "differing", desc := "(II)I" } : Jvm.MethodName) prog_1_method_20_code (5 : Nat) (Option.some Jvm.ClassFile.FieldType.int)) ∈ lw_all := lw_g (lw_at lw_m1 174 rfl) rfl
theorem q193 : (Jvm.Cond.methodLink "SyntheticChain" (93 : Nat) ({ cls := "SyntheticChain", name := "differs", desc := "(III)Z" } : Jvm.MethodName)) ∈ lw_all := lw_g (lw_at lw_m1 175 rfl) rfl
theorem q194 : (Jvm.Cond.privateMethod ({ cls := "SyntheticChain", name := "differs", desc := "(III)Z" } : Jvm.MethodName)) ∈ lw_tbl := lw_at lw_m1 176 rfl
theorem q195 : (Jvm.Cond.instanceMethod ({ cls := "SyntheticChain", name := "differs", desc := "(III)Z" } : Jvm.MethodName)) ∈ lw_all := lw_g (lw_at lw_m1 177 rfl) rfl
theorem q196 : (Jvm.Cond.code ({ cls := "SyntheticChain", name := "differs", desc := "(III)Z" } : Jvm.MethodName) prog_1_method_33_code (6 : Nat) (Option.some Jvm.ClassFile.FieldType.boolean)) ∈ lw_all := lw_g (lw_at lw_m1 178 rfl) rfl
theorem q198 : (Jvm.Cond.instanceMethod ({ cls := "SyntheticChain", name := "changedSince", desc := "(I)I" } : Jvm.MethodName)) ∈ lw_all := lw_g (lw_at lw_m1 180 rfl) rfl
theorem q199 : (Jvm.Cond.selects "SyntheticChain" ({ cls := "SyntheticChain", name := "changedSince", desc := "(I)I" } : Jvm.MethodName) ({ cls := "SyntheticChain", name := "changedSince", desc := "(I)I" } : Jvm.MethodName)) ∈ lw_all := lw_g (lw_at lw_m1 181 rfl) rfl
theorem q200 : (Jvm.Cond.code ({ cls := "SyntheticChain", name := "changedSince", desc := "(I)I" } : Jvm.MethodName) prog_1_method_21_code (5 : Nat) (Option.some Jvm.ClassFile.FieldType.int)) ∈ lw_all := lw_g (lw_at lw_m1 182 rfl) rfl
theorem q202 : (Jvm.Cond.instanceMethod ({ cls := "SyntheticChain", name := "versions", desc := "(I)I" } : Jvm.MethodName)) ∈ lw_all := lw_g (lw_at lw_m1 184 rfl) rfl
theorem q203 : (Jvm.Cond.selects "SyntheticChain" ({ cls := "SyntheticChain", name := "versions", desc := "(I)I" } : Jvm.MethodName) ({ cls := "SyntheticChain", name := "versions", desc := "(I)I" } : Jvm.MethodName)) ∈ lw_all := lw_g (lw_at lw_m1 185 rfl) rfl
theorem q204 : (Jvm.Cond.code ({ cls := "SyntheticChain", name := "versions", desc := "(I)I" } : Jvm.MethodName) prog_1_method_22_code (4 : Nat) (Option.some Jvm.ClassFile.FieldType.int)) ∈ lw_all := lw_g (lw_at lw_m1 186 rfl) rfl
theorem q206 : (Jvm.Cond.instanceMethod ({ cls := "SyntheticChain", name := "sum", desc := "(I)I" } : Jvm.MethodName)) ∈ lw_all := lw_g (lw_at lw_m1 188 rfl) rfl
theorem q207 : (Jvm.Cond.selects "SyntheticChain" ({ cls := "SyntheticChain", name := "sum", desc := "(I)I" } : Jvm.MethodName) ({ cls := "SyntheticChain", name := "sum", desc := "(I)I" } : Jvm.MethodName)) ∈ lw_all := lw_g (lw_at lw_m1 189 rfl) rfl
theorem q208 : (Jvm.Cond.code ({ cls := "SyntheticChain", name := "sum", desc := "(I)I" } : Jvm.MethodName) prog_1_method_23_code (5 : Nat) (Option.some Jvm.ClassFile.FieldType.int)) ∈ lw_all := lw_g (lw_at lw_m1 190 rfl) rfl
theorem in_X0 : ∀ w ∈ wsX00, w ∈ lw_all := lw_in wsX00 [43, 45, 47, 49, 51, 53, 55, 57, 59, 61, 63, 65, 67, 69] (by decide +kernel) (by decide +kernel)
end
section
/-! SyntheticChainModel -/
set_option maxRecDepth 100000
def RX1 : String := "SyntheticChainModel"
def TX1 : u_T := fun k => match k with
  | 0 => ("SyntheticChainModel", "today", "I", false)
  | 1 => ("SyntheticChainModel", "liveThere", "[Z", false)
  | 2 => ("SyntheticChainModel", "live", "[I", false)
  | 3 => ("SyntheticChainModel", "points", "I", false)
  | 4 => ("SyntheticChainModel", "held", "[Z", false)
  | 5 => ("SyntheticChainModel", "content", "[I", false)
  | 6 => ("SyntheticChainModel", "day", "[I", false)
  | 7 => ("SyntheticChainModel", "pinned", "[Z", false)
  | _ => ("SyntheticChainModel", "kept", "[Z", false)
def tyX1 : Nat → FieldType := fun k => match k with
  | 0 => .int
  | 1 => .array .boolean
  | 2 => .array .int
  | 3 => .int
  | 4 => .array .boolean
  | 5 => .array .int
  | 6 => .array .int
  | 7 => .array .boolean
  | _ => .array .boolean
abbrev wsX10 : List Cond := u_ws RX1 TX1 9
theorem nmX1 : ∀ a, a < 9 → ∀ b, b < 9 → a ≠ b → (TX1 a).2.1 ≠ (TX1 b).2.1 := by decide +kernel
theorem tyX1_ok : ∀ k, k < 9 → parseFieldDescriptor (TX1 k).2.2.1 = some (tyX1 k) := by decide +kernel
abbrev cX1_init : ByteArray := prog_3_method_1_code
def yX1_init : MethodName := ⟨RX1, "<init>", "()V"⟩
theorem dX1_init_0 : decode cX1_init 0 = .ok (.aload_n 0, 1) := by decide +kernel
theorem dX1_init_1 : decode cX1_init 1 = .ok (.invokespecial 1, 3) := by decide +kernel
theorem dX1_init_4 : decode cX1_init 4 = .ok (.aload_n 0, 1) := by decide +kernel
theorem dX1_init_5 : decode cX1_init 5 = .ok (.bipush 16, 2) := by decide +kernel
theorem dX1_init_7 : decode cX1_init 7 = .ok (.newarray .boolean, 2) := by decide +kernel
theorem dX1_init_9 : decode cX1_init 9 = .ok (.putfield 7, 3) := by decide +kernel
theorem dX1_init_12 : decode cX1_init 12 = .ok (.aload_n 0, 1) := by decide +kernel
theorem dX1_init_13 : decode cX1_init 13 = .ok (.bipush 16, 2) := by decide +kernel
theorem dX1_init_15 : decode cX1_init 15 = .ok (.newarray .int, 2) := by decide +kernel
theorem dX1_init_17 : decode cX1_init 17 = .ok (.putfield 13, 3) := by decide +kernel
theorem dX1_init_20 : decode cX1_init 20 = .ok (.aload_n 0, 1) := by decide +kernel
theorem dX1_init_21 : decode cX1_init 21 = .ok (.sipush 224, 3) := by decide +kernel
theorem dX1_init_24 : decode cX1_init 24 = .ok (.newarray .boolean, 2) := by decide +kernel
theorem dX1_init_26 : decode cX1_init 26 = .ok (.putfield 17, 3) := by decide +kernel
theorem dX1_init_29 : decode cX1_init 29 = .ok (.aload_n 0, 1) := by decide +kernel
theorem dX1_init_30 : decode cX1_init 30 = .ok (.sipush 224, 3) := by decide +kernel
theorem dX1_init_33 : decode cX1_init 33 = .ok (.newarray .int, 2) := by decide +kernel
theorem dX1_init_35 : decode cX1_init 35 = .ok (.putfield 20, 3) := by decide +kernel
theorem dX1_init_38 : decode cX1_init 38 = .ok (.aload_n 0, 1) := by decide +kernel
theorem dX1_init_39 : decode cX1_init 39 = .ok (.bipush 14, 2) := by decide +kernel
theorem dX1_init_41 : decode cX1_init 41 = .ok (.newarray .int, 2) := by decide +kernel
theorem dX1_init_43 : decode cX1_init 43 = .ok (.putfield 23, 3) := by decide +kernel
theorem dX1_init_46 : decode cX1_init 46 = .ok (.aload_n 0, 1) := by decide +kernel
theorem dX1_init_47 : decode cX1_init 47 = .ok (.bipush 14, 2) := by decide +kernel
theorem dX1_init_49 : decode cX1_init 49 = .ok (.newarray .boolean, 2) := by decide +kernel
theorem dX1_init_51 : decode cX1_init 51 = .ok (.putfield 26, 3) := by decide +kernel
theorem dX1_init_54 : decode cX1_init 54 = .ok (.aload_n 0, 1) := by decide +kernel
theorem dX1_init_55 : decode cX1_init 55 = .ok (.bipush 14, 2) := by decide +kernel
theorem dX1_init_57 : decode cX1_init 57 = .ok (.newarray .boolean, 2) := by decide +kernel
theorem dX1_init_59 : decode cX1_init 59 = .ok (.putfield 29, 3) := by decide +kernel
theorem dX1_init_62 : decode cX1_init 62 = .ok (.return_, 1) := by decide +kernel
abbrev cX1_put : ByteArray := prog_3_method_4_code
def yX1_put : MethodName := ⟨RX1, "put", "(II)I"⟩
theorem dX1_put_0 : decode cX1_put 0 = .ok (.aload_n 0, 1) := by decide +kernel
theorem dX1_put_1 : decode cX1_put 1 = .ok (.iload_n 1, 1) := by decide +kernel
theorem dX1_put_2 : decode cX1_put 2 = .ok (.invokevirtual 36, 3) := by decide +kernel
theorem dX1_put_5 : decode cX1_put 5 = .ok (.ifCond .eq 5, 3) := by decide +kernel
theorem dX1_put_8 : decode cX1_put 8 = .ok (.iconst (-1), 1) := by decide +kernel
theorem dX1_put_9 : decode cX1_put 9 = .ok (.ireturn, 1) := by decide +kernel
theorem dX1_put_10 : decode cX1_put 10 = .ok (.aload_n 0, 1) := by decide +kernel
theorem dX1_put_11 : decode cX1_put 11 = .ok (.getfield 7, 3) := by decide +kernel
theorem dX1_put_14 : decode cX1_put 14 = .ok (.iload_n 1, 1) := by decide +kernel
theorem dX1_put_15 : decode cX1_put 15 = .ok (.baload, 1) := by decide +kernel
theorem dX1_put_16 : decode cX1_put 16 = .ok (.ifCond .eq 7, 3) := by decide +kernel
theorem dX1_put_19 : decode cX1_put 19 = .ok (.iconst 1, 1) := by decide +kernel
theorem dX1_put_20 : decode cX1_put 20 = .ok (.goto 4, 3) := by decide +kernel
theorem dX1_put_23 : decode cX1_put 23 = .ok (.iconst 0, 1) := by decide +kernel
theorem dX1_put_24 : decode cX1_put 24 = .ok (.istore_n 3, 1) := by decide +kernel
theorem dX1_put_25 : decode cX1_put 25 = .ok (.aload_n 0, 1) := by decide +kernel
theorem dX1_put_26 : decode cX1_put 26 = .ok (.getfield 7, 3) := by decide +kernel
theorem dX1_put_29 : decode cX1_put 29 = .ok (.iload_n 1, 1) := by decide +kernel
theorem dX1_put_30 : decode cX1_put 30 = .ok (.iconst 1, 1) := by decide +kernel
theorem dX1_put_31 : decode cX1_put 31 = .ok (.bastore, 1) := by decide +kernel
theorem dX1_put_32 : decode cX1_put 32 = .ok (.aload_n 0, 1) := by decide +kernel
theorem dX1_put_33 : decode cX1_put 33 = .ok (.getfield 13, 3) := by decide +kernel
theorem dX1_put_36 : decode cX1_put 36 = .ok (.iload_n 1, 1) := by decide +kernel
theorem dX1_put_37 : decode cX1_put 37 = .ok (.iload_n 2, 1) := by decide +kernel
theorem dX1_put_38 : decode cX1_put 38 = .ok (.iastore, 1) := by decide +kernel
theorem dX1_put_39 : decode cX1_put 39 = .ok (.iload_n 3, 1) := by decide +kernel
theorem dX1_put_40 : decode cX1_put 40 = .ok (.ireturn, 1) := by decide +kernel
abbrev cX1_badFile : ByteArray := prog_3_method_2_code
def yX1_badFile : MethodName := ⟨RX1, "badFile", "(I)Z"⟩
theorem dX1_badFile_0 : decode cX1_badFile 0 = .ok (.iload_n 1, 1) := by decide +kernel
theorem dX1_badFile_1 : decode cX1_badFile 1 = .ok (.ifCond .lt 9, 3) := by decide +kernel
theorem dX1_badFile_4 : decode cX1_badFile 4 = .ok (.iload_n 1, 1) := by decide +kernel
theorem dX1_badFile_5 : decode cX1_badFile 5 = .ok (.bipush 15, 2) := by decide +kernel
theorem dX1_badFile_7 : decode cX1_badFile 7 = .ok (.if_icmp .le 7, 3) := by decide +kernel
theorem dX1_badFile_10 : decode cX1_badFile 10 = .ok (.iconst 1, 1) := by decide +kernel
theorem dX1_badFile_11 : decode cX1_badFile 11 = .ok (.goto 4, 3) := by decide +kernel
theorem dX1_badFile_14 : decode cX1_badFile 14 = .ok (.iconst 0, 1) := by decide +kernel
theorem dX1_badFile_15 : decode cX1_badFile 15 = .ok (.ireturn, 1) := by decide +kernel
abbrev cX1_delete : ByteArray := prog_3_method_5_code
def yX1_delete : MethodName := ⟨RX1, "delete", "(I)I"⟩
theorem dX1_delete_0 : decode cX1_delete 0 = .ok (.aload_n 0, 1) := by decide +kernel
theorem dX1_delete_1 : decode cX1_delete 1 = .ok (.iload_n 1, 1) := by decide +kernel
theorem dX1_delete_2 : decode cX1_delete 2 = .ok (.invokevirtual 36, 3) := by decide +kernel
theorem dX1_delete_5 : decode cX1_delete 5 = .ok (.ifCond .eq 5, 3) := by decide +kernel
theorem dX1_delete_8 : decode cX1_delete 8 = .ok (.iconst (-1), 1) := by decide +kernel
theorem dX1_delete_9 : decode cX1_delete 9 = .ok (.ireturn, 1) := by decide +kernel
theorem dX1_delete_10 : decode cX1_delete 10 = .ok (.aload_n 0, 1) := by decide +kernel
theorem dX1_delete_11 : decode cX1_delete 11 = .ok (.getfield 7, 3) := by decide +kernel
theorem dX1_delete_14 : decode cX1_delete 14 = .ok (.iload_n 1, 1) := by decide +kernel
theorem dX1_delete_15 : decode cX1_delete 15 = .ok (.baload, 1) := by decide +kernel
theorem dX1_delete_16 : decode cX1_delete 16 = .ok (.ifCond .eq 7, 3) := by decide +kernel
theorem dX1_delete_19 : decode cX1_delete 19 = .ok (.iconst 1, 1) := by decide +kernel
theorem dX1_delete_20 : decode cX1_delete 20 = .ok (.goto 4, 3) := by decide +kernel
theorem dX1_delete_23 : decode cX1_delete 23 = .ok (.iconst 0, 1) := by decide +kernel
theorem dX1_delete_24 : decode cX1_delete 24 = .ok (.istore_n 2, 1) := by decide +kernel
theorem dX1_delete_25 : decode cX1_delete 25 = .ok (.aload_n 0, 1) := by decide +kernel
theorem dX1_delete_26 : decode cX1_delete 26 = .ok (.getfield 7, 3) := by decide +kernel
theorem dX1_delete_29 : decode cX1_delete 29 = .ok (.iload_n 1, 1) := by decide +kernel
theorem dX1_delete_30 : decode cX1_delete 30 = .ok (.iconst 0, 1) := by decide +kernel
theorem dX1_delete_31 : decode cX1_delete 31 = .ok (.bastore, 1) := by decide +kernel
theorem dX1_delete_32 : decode cX1_delete 32 = .ok (.aload_n 0, 1) := by decide +kernel
theorem dX1_delete_33 : decode cX1_delete 33 = .ok (.getfield 13, 3) := by decide +kernel
theorem dX1_delete_36 : decode cX1_delete 36 = .ok (.iload_n 1, 1) := by decide +kernel
theorem dX1_delete_37 : decode cX1_delete 37 = .ok (.iconst 0, 1) := by decide +kernel
theorem dX1_delete_38 : decode cX1_delete 38 = .ok (.iastore, 1) := by decide +kernel
theorem dX1_delete_39 : decode cX1_delete 39 = .ok (.iload_n 2, 1) := by decide +kernel
theorem dX1_delete_40 : decode cX1_delete 40 = .ok (.ireturn, 1) := by decide +kernel
abbrev cX1_rename : ByteArray := prog_3_method_6_code
def yX1_rename : MethodName := ⟨RX1, "rename", "(II)I"⟩
theorem dX1_rename_0 : decode cX1_rename 0 = .ok (.aload_n 0, 1) := by decide +kernel
theorem dX1_rename_1 : decode cX1_rename 1 = .ok (.iload_n 1, 1) := by decide +kernel
theorem dX1_rename_2 : decode cX1_rename 2 = .ok (.invokevirtual 36, 3) := by decide +kernel
theorem dX1_rename_5 : decode cX1_rename 5 = .ok (.ifCond .ne 11, 3) := by decide +kernel
theorem dX1_rename_8 : decode cX1_rename 8 = .ok (.aload_n 0, 1) := by decide +kernel
theorem dX1_rename_9 : decode cX1_rename 9 = .ok (.iload_n 2, 1) := by decide +kernel
theorem dX1_rename_10 : decode cX1_rename 10 = .ok (.invokevirtual 36, 3) := by decide +kernel
theorem dX1_rename_13 : decode cX1_rename 13 = .ok (.ifCond .eq 5, 3) := by decide +kernel
theorem dX1_rename_16 : decode cX1_rename 16 = .ok (.iconst (-1), 1) := by decide +kernel
theorem dX1_rename_17 : decode cX1_rename 17 = .ok (.ireturn, 1) := by decide +kernel
theorem dX1_rename_18 : decode cX1_rename 18 = .ok (.iload_n 1, 1) := by decide +kernel
theorem dX1_rename_19 : decode cX1_rename 19 = .ok (.iload_n 2, 1) := by decide +kernel
theorem dX1_rename_20 : decode cX1_rename 20 = .ok (.if_icmp .ne 6, 3) := by decide +kernel
theorem dX1_rename_23 : decode cX1_rename 23 = .ok (.bipush (-2), 2) := by decide +kernel
theorem dX1_rename_25 : decode cX1_rename 25 = .ok (.ireturn, 1) := by decide +kernel
theorem dX1_rename_26 : decode cX1_rename 26 = .ok (.aload_n 0, 1) := by decide +kernel
theorem dX1_rename_27 : decode cX1_rename 27 = .ok (.getfield 7, 3) := by decide +kernel
theorem dX1_rename_30 : decode cX1_rename 30 = .ok (.iload_n 1, 1) := by decide +kernel
theorem dX1_rename_31 : decode cX1_rename 31 = .ok (.baload, 1) := by decide +kernel
theorem dX1_rename_32 : decode cX1_rename 32 = .ok (.ifCond .ne 6, 3) := by decide +kernel
theorem dX1_rename_35 : decode cX1_rename 35 = .ok (.bipush (-3), 2) := by decide +kernel
theorem dX1_rename_37 : decode cX1_rename 37 = .ok (.ireturn, 1) := by decide +kernel
theorem dX1_rename_38 : decode cX1_rename 38 = .ok (.aload_n 0, 1) := by decide +kernel
theorem dX1_rename_39 : decode cX1_rename 39 = .ok (.getfield 7, 3) := by decide +kernel
theorem dX1_rename_42 : decode cX1_rename 42 = .ok (.iload_n 2, 1) := by decide +kernel
theorem dX1_rename_43 : decode cX1_rename 43 = .ok (.iconst 1, 1) := by decide +kernel
theorem dX1_rename_44 : decode cX1_rename 44 = .ok (.bastore, 1) := by decide +kernel
theorem dX1_rename_45 : decode cX1_rename 45 = .ok (.aload_n 0, 1) := by decide +kernel
theorem dX1_rename_46 : decode cX1_rename 46 = .ok (.getfield 13, 3) := by decide +kernel
theorem dX1_rename_49 : decode cX1_rename 49 = .ok (.iload_n 2, 1) := by decide +kernel
theorem dX1_rename_50 : decode cX1_rename 50 = .ok (.aload_n 0, 1) := by decide +kernel
theorem dX1_rename_51 : decode cX1_rename 51 = .ok (.getfield 13, 3) := by decide +kernel
theorem dX1_rename_54 : decode cX1_rename 54 = .ok (.iload_n 1, 1) := by decide +kernel
theorem dX1_rename_55 : decode cX1_rename 55 = .ok (.iaload, 1) := by decide +kernel
theorem dX1_rename_56 : decode cX1_rename 56 = .ok (.iastore, 1) := by decide +kernel
theorem dX1_rename_57 : decode cX1_rename 57 = .ok (.aload_n 0, 1) := by decide +kernel
theorem dX1_rename_58 : decode cX1_rename 58 = .ok (.getfield 7, 3) := by decide +kernel
theorem dX1_rename_61 : decode cX1_rename 61 = .ok (.iload_n 1, 1) := by decide +kernel
theorem dX1_rename_62 : decode cX1_rename 62 = .ok (.iconst 0, 1) := by decide +kernel
theorem dX1_rename_63 : decode cX1_rename 63 = .ok (.bastore, 1) := by decide +kernel
theorem dX1_rename_64 : decode cX1_rename 64 = .ok (.aload_n 0, 1) := by decide +kernel
theorem dX1_rename_65 : decode cX1_rename 65 = .ok (.getfield 13, 3) := by decide +kernel
theorem dX1_rename_68 : decode cX1_rename 68 = .ok (.iload_n 1, 1) := by decide +kernel
theorem dX1_rename_69 : decode cX1_rename 69 = .ok (.iconst 0, 1) := by decide +kernel
theorem dX1_rename_70 : decode cX1_rename 70 = .ok (.iastore, 1) := by decide +kernel
theorem dX1_rename_71 : decode cX1_rename 71 = .ok (.iconst 0, 1) := by decide +kernel
theorem dX1_rename_72 : decode cX1_rename 72 = .ok (.ireturn, 1) := by decide +kernel
abbrev cX1_rewrite : ByteArray := prog_3_method_7_code
def yX1_rewrite : MethodName := ⟨RX1, "rewrite", "(III)I"⟩
theorem dX1_rewrite_0 : decode cX1_rewrite 0 = .ok (.aload_n 0, 1) := by decide +kernel
theorem dX1_rewrite_1 : decode cX1_rewrite 1 = .ok (.iload_n 1, 1) := by decide +kernel
theorem dX1_rewrite_2 : decode cX1_rewrite 2 = .ok (.invokevirtual 36, 3) := by decide +kernel
theorem dX1_rewrite_5 : decode cX1_rewrite 5 = .ok (.ifCond .eq 5, 3) := by decide +kernel
theorem dX1_rewrite_8 : decode cX1_rewrite 8 = .ok (.iconst (-1), 1) := by decide +kernel
theorem dX1_rewrite_9 : decode cX1_rewrite 9 = .ok (.ireturn, 1) := by decide +kernel
theorem dX1_rewrite_10 : decode cX1_rewrite 10 = .ok (.iconst 0, 1) := by decide +kernel
theorem dX1_rewrite_11 : decode cX1_rewrite 11 = .ok (.istore 4, 2) := by decide +kernel
theorem dX1_rewrite_13 : decode cX1_rewrite 13 = .ok (.iload_n 1, 1) := by decide +kernel
theorem dX1_rewrite_14 : decode cX1_rewrite 14 = .ok (.istore 5, 2) := by decide +kernel
theorem dX1_rewrite_16 : decode cX1_rewrite 16 = .ok (.iload 5, 2) := by decide +kernel
theorem dX1_rewrite_18 : decode cX1_rewrite 18 = .ok (.bipush 16, 2) := by decide +kernel
theorem dX1_rewrite_20 : decode cX1_rewrite 20 = .ok (.if_icmp .ge 35, 3) := by decide +kernel
theorem dX1_rewrite_23 : decode cX1_rewrite 23 = .ok (.aload_n 0, 1) := by decide +kernel
theorem dX1_rewrite_24 : decode cX1_rewrite 24 = .ok (.getfield 7, 3) := by decide +kernel
theorem dX1_rewrite_27 : decode cX1_rewrite 27 = .ok (.iload 5, 2) := by decide +kernel
theorem dX1_rewrite_29 : decode cX1_rewrite 29 = .ok (.baload, 1) := by decide +kernel
theorem dX1_rewrite_30 : decode cX1_rewrite 30 = .ok (.ifCond .eq 19, 3) := by decide +kernel
theorem dX1_rewrite_33 : decode cX1_rewrite 33 = .ok (.aload_n 0, 1) := by decide +kernel
theorem dX1_rewrite_34 : decode cX1_rewrite 34 = .ok (.getfield 13, 3) := by decide +kernel
theorem dX1_rewrite_37 : decode cX1_rewrite 37 = .ok (.iload 5, 2) := by decide +kernel
theorem dX1_rewrite_39 : decode cX1_rewrite 39 = .ok (.iload_n 2, 1) := by decide +kernel
theorem dX1_rewrite_40 : decode cX1_rewrite 40 = .ok (.iload 5, 2) := by decide +kernel
theorem dX1_rewrite_42 : decode cX1_rewrite 42 = .ok (.iload_n 3, 1) := by decide +kernel
theorem dX1_rewrite_43 : decode cX1_rewrite 43 = .ok (.imul, 1) := by decide +kernel
theorem dX1_rewrite_44 : decode cX1_rewrite 44 = .ok (.iadd, 1) := by decide +kernel
theorem dX1_rewrite_45 : decode cX1_rewrite 45 = .ok (.iastore, 1) := by decide +kernel
theorem dX1_rewrite_46 : decode cX1_rewrite 46 = .ok (.iinc 4 1, 3) := by decide +kernel
theorem dX1_rewrite_49 : decode cX1_rewrite 49 = .ok (.iinc 5 1, 3) := by decide +kernel
theorem dX1_rewrite_52 : decode cX1_rewrite 52 = .ok (.goto (-36), 3) := by decide +kernel
theorem dX1_rewrite_55 : decode cX1_rewrite 55 = .ok (.iload 4, 2) := by decide +kernel
theorem dX1_rewrite_57 : decode cX1_rewrite 57 = .ok (.ireturn, 1) := by decide +kernel
abbrev cX1_advance : ByteArray := prog_3_method_8_code
def yX1_advance : MethodName := ⟨RX1, "advance", "(I)I"⟩
theorem dX1_advance_0 : decode cX1_advance 0 = .ok (.iload_n 1, 1) := by decide +kernel
theorem dX1_advance_1 : decode cX1_advance 1 = .ok (.iconst 1, 1) := by decide +kernel
theorem dX1_advance_2 : decode cX1_advance 2 = .ok (.if_icmp .lt 9, 3) := by decide +kernel
theorem dX1_advance_5 : decode cX1_advance 5 = .ok (.iload_n 1, 1) := by decide +kernel
theorem dX1_advance_6 : decode cX1_advance 6 = .ok (.bipush 60, 2) := by decide +kernel
theorem dX1_advance_8 : decode cX1_advance 8 = .ok (.if_icmp .le 5, 3) := by decide +kernel
theorem dX1_advance_11 : decode cX1_advance 11 = .ok (.iconst (-1), 1) := by decide +kernel
theorem dX1_advance_12 : decode cX1_advance 12 = .ok (.ireturn, 1) := by decide +kernel
theorem dX1_advance_13 : decode cX1_advance 13 = .ok (.aload_n 0, 1) := by decide +kernel
theorem dX1_advance_14 : decode cX1_advance 14 = .ok (.getfield 40, 3) := by decide +kernel
theorem dX1_advance_17 : decode cX1_advance 17 = .ok (.iload_n 1, 1) := by decide +kernel
theorem dX1_advance_18 : decode cX1_advance 18 = .ok (.iadd, 1) := by decide +kernel
theorem dX1_advance_19 : decode cX1_advance 19 = .ok (.sipush 5000, 3) := by decide +kernel
theorem dX1_advance_22 : decode cX1_advance 22 = .ok (.if_icmp .le 6, 3) := by decide +kernel
theorem dX1_advance_25 : decode cX1_advance 25 = .ok (.bipush (-2), 2) := by decide +kernel
theorem dX1_advance_27 : decode cX1_advance 27 = .ok (.ireturn, 1) := by decide +kernel
theorem dX1_advance_28 : decode cX1_advance 28 = .ok (.aload_n 0, 1) := by decide +kernel
theorem dX1_advance_29 : decode cX1_advance 29 = .ok (.dup, 1) := by decide +kernel
theorem dX1_advance_30 : decode cX1_advance 30 = .ok (.getfield 40, 3) := by decide +kernel
theorem dX1_advance_33 : decode cX1_advance 33 = .ok (.iload_n 1, 1) := by decide +kernel
theorem dX1_advance_34 : decode cX1_advance 34 = .ok (.iadd, 1) := by decide +kernel
theorem dX1_advance_35 : decode cX1_advance 35 = .ok (.putfield 40, 3) := by decide +kernel
theorem dX1_advance_38 : decode cX1_advance 38 = .ok (.aload_n 0, 1) := by decide +kernel
theorem dX1_advance_39 : decode cX1_advance 39 = .ok (.getfield 40, 3) := by decide +kernel
theorem dX1_advance_42 : decode cX1_advance 42 = .ok (.ireturn, 1) := by decide +kernel
abbrev cX1_take : ByteArray := prog_3_method_9_code
def yX1_take : MethodName := ⟨RX1, "take", "(I)I"⟩
theorem dX1_take_0 : decode cX1_take 0 = .ok (.iload_n 1, 1) := by decide +kernel
theorem dX1_take_1 : decode cX1_take 1 = .ok (.ifCond .lt 8, 3) := by decide +kernel
theorem dX1_take_4 : decode cX1_take 4 = .ok (.iload_n 1, 1) := by decide +kernel
theorem dX1_take_5 : decode cX1_take 5 = .ok (.iconst 2, 1) := by decide +kernel
theorem dX1_take_6 : decode cX1_take 6 = .ok (.if_icmp .le 5, 3) := by decide +kernel
theorem dX1_take_9 : decode cX1_take 9 = .ok (.iconst (-1), 1) := by decide +kernel
theorem dX1_take_10 : decode cX1_take 10 = .ok (.ireturn, 1) := by decide +kernel
theorem dX1_take_11 : decode cX1_take 11 = .ok (.aload_n 0, 1) := by decide +kernel
theorem dX1_take_12 : decode cX1_take 12 = .ok (.getfield 32, 3) := by decide +kernel
theorem dX1_take_15 : decode cX1_take 15 = .ok (.istore_n 2, 1) := by decide +kernel
theorem dX1_take_16 : decode cX1_take 16 = .ok (.iload_n 2, 1) := by decide +kernel
theorem dX1_take_17 : decode cX1_take 17 = .ok (.bipush 14, 2) := by decide +kernel
theorem dX1_take_19 : decode cX1_take 19 = .ok (.if_icmp .lt 6, 3) := by decide +kernel
theorem dX1_take_22 : decode cX1_take 22 = .ok (.bipush (-2), 2) := by decide +kernel
theorem dX1_take_24 : decode cX1_take 24 = .ok (.ireturn, 1) := by decide +kernel
theorem dX1_take_25 : decode cX1_take 25 = .ok (.iconst 0, 1) := by decide +kernel
theorem dX1_take_26 : decode cX1_take 26 = .ok (.istore_n 3, 1) := by decide +kernel
theorem dX1_take_27 : decode cX1_take 27 = .ok (.iload_n 3, 1) := by decide +kernel
theorem dX1_take_28 : decode cX1_take 28 = .ok (.bipush 16, 2) := by decide +kernel
theorem dX1_take_30 : decode cX1_take 30 = .ok (.if_icmp .ge 43, 3) := by decide +kernel
theorem dX1_take_33 : decode cX1_take 33 = .ok (.aload_n 0, 1) := by decide +kernel
theorem dX1_take_34 : decode cX1_take 34 = .ok (.getfield 17, 3) := by decide +kernel
theorem dX1_take_37 : decode cX1_take 37 = .ok (.bipush 16, 2) := by decide +kernel
theorem dX1_take_39 : decode cX1_take 39 = .ok (.iload_n 2, 1) := by decide +kernel
theorem dX1_take_40 : decode cX1_take 40 = .ok (.imul, 1) := by decide +kernel
theorem dX1_take_41 : decode cX1_take 41 = .ok (.iload_n 3, 1) := by decide +kernel
theorem dX1_take_42 : decode cX1_take 42 = .ok (.iadd, 1) := by decide +kernel
theorem dX1_take_43 : decode cX1_take 43 = .ok (.aload_n 0, 1) := by decide +kernel
theorem dX1_take_44 : decode cX1_take 44 = .ok (.getfield 7, 3) := by decide +kernel
theorem dX1_take_47 : decode cX1_take 47 = .ok (.iload_n 3, 1) := by decide +kernel
theorem dX1_take_48 : decode cX1_take 48 = .ok (.baload, 1) := by decide +kernel
theorem dX1_take_49 : decode cX1_take 49 = .ok (.bastore, 1) := by decide +kernel
theorem dX1_take_50 : decode cX1_take 50 = .ok (.aload_n 0, 1) := by decide +kernel
theorem dX1_take_51 : decode cX1_take 51 = .ok (.getfield 20, 3) := by decide +kernel
theorem dX1_take_54 : decode cX1_take 54 = .ok (.bipush 16, 2) := by decide +kernel
theorem dX1_take_56 : decode cX1_take 56 = .ok (.iload_n 2, 1) := by decide +kernel
theorem dX1_take_57 : decode cX1_take 57 = .ok (.imul, 1) := by decide +kernel
theorem dX1_take_58 : decode cX1_take 58 = .ok (.iload_n 3, 1) := by decide +kernel
theorem dX1_take_59 : decode cX1_take 59 = .ok (.iadd, 1) := by decide +kernel
theorem dX1_take_60 : decode cX1_take 60 = .ok (.aload_n 0, 1) := by decide +kernel
theorem dX1_take_61 : decode cX1_take 61 = .ok (.getfield 13, 3) := by decide +kernel
theorem dX1_take_64 : decode cX1_take 64 = .ok (.iload_n 3, 1) := by decide +kernel
theorem dX1_take_65 : decode cX1_take 65 = .ok (.iaload, 1) := by decide +kernel
theorem dX1_take_66 : decode cX1_take 66 = .ok (.iastore, 1) := by decide +kernel
theorem dX1_take_67 : decode cX1_take 67 = .ok (.iinc 3 1, 3) := by decide +kernel
theorem dX1_take_70 : decode cX1_take 70 = .ok (.goto (-43), 3) := by decide +kernel
theorem dX1_take_73 : decode cX1_take 73 = .ok (.aload_n 0, 1) := by decide +kernel
theorem dX1_take_74 : decode cX1_take 74 = .ok (.getfield 23, 3) := by decide +kernel
theorem dX1_take_77 : decode cX1_take 77 = .ok (.iload_n 2, 1) := by decide +kernel
theorem dX1_take_78 : decode cX1_take 78 = .ok (.aload_n 0, 1) := by decide +kernel
theorem dX1_take_79 : decode cX1_take 79 = .ok (.getfield 40, 3) := by decide +kernel
theorem dX1_take_82 : decode cX1_take 82 = .ok (.iastore, 1) := by decide +kernel
theorem dX1_take_83 : decode cX1_take 83 = .ok (.aload_n 0, 1) := by decide +kernel
theorem dX1_take_84 : decode cX1_take 84 = .ok (.getfield 26, 3) := by decide +kernel
theorem dX1_take_87 : decode cX1_take 87 = .ok (.iload_n 2, 1) := by decide +kernel
theorem dX1_take_88 : decode cX1_take 88 = .ok (.iconst 0, 1) := by decide +kernel
theorem dX1_take_89 : decode cX1_take 89 = .ok (.bastore, 1) := by decide +kernel
theorem dX1_take_90 : decode cX1_take 90 = .ok (.aload_n 0, 1) := by decide +kernel
theorem dX1_take_91 : decode cX1_take 91 = .ok (.iload_n 2, 1) := by decide +kernel
theorem dX1_take_92 : decode cX1_take 92 = .ok (.iconst 1, 1) := by decide +kernel
theorem dX1_take_93 : decode cX1_take 93 = .ok (.iadd, 1) := by decide +kernel
theorem dX1_take_94 : decode cX1_take 94 = .ok (.putfield 32, 3) := by decide +kernel
theorem dX1_take_97 : decode cX1_take 97 = .ok (.iload_n 2, 1) := by decide +kernel
theorem dX1_take_98 : decode cX1_take 98 = .ok (.ireturn, 1) := by decide +kernel
abbrev cX1_restore : ByteArray := prog_3_method_12_code
def yX1_restore : MethodName := ⟨RX1, "restore", "(I)I"⟩
theorem dX1_restore_0 : decode cX1_restore 0 = .ok (.aload_n 0, 1) := by decide +kernel
theorem dX1_restore_1 : decode cX1_restore 1 = .ok (.iload_n 1, 1) := by decide +kernel
theorem dX1_restore_2 : decode cX1_restore 2 = .ok (.invokevirtual 43, 3) := by decide +kernel
theorem dX1_restore_5 : decode cX1_restore 5 = .ok (.ifCond .eq 5, 3) := by decide +kernel
theorem dX1_restore_8 : decode cX1_restore 8 = .ok (.iconst (-1), 1) := by decide +kernel
theorem dX1_restore_9 : decode cX1_restore 9 = .ok (.ireturn, 1) := by decide +kernel
theorem dX1_restore_10 : decode cX1_restore 10 = .ok (.iconst 0, 1) := by decide +kernel
theorem dX1_restore_11 : decode cX1_restore 11 = .ok (.istore_n 2, 1) := by decide +kernel
theorem dX1_restore_12 : decode cX1_restore 12 = .ok (.iconst 0, 1) := by decide +kernel
theorem dX1_restore_13 : decode cX1_restore 13 = .ok (.istore_n 3, 1) := by decide +kernel
theorem dX1_restore_14 : decode cX1_restore 14 = .ok (.iload_n 3, 1) := by decide +kernel
theorem dX1_restore_15 : decode cX1_restore 15 = .ok (.bipush 16, 2) := by decide +kernel
theorem dX1_restore_17 : decode cX1_restore 17 = .ok (.if_icmp .ge 27, 3) := by decide +kernel
theorem dX1_restore_20 : decode cX1_restore 20 = .ok (.aload_n 0, 1) := by decide +kernel
theorem dX1_restore_21 : decode cX1_restore 21 = .ok (.iload_n 1, 1) := by decide +kernel
theorem dX1_restore_22 : decode cX1_restore 22 = .ok (.iload_n 3, 1) := by decide +kernel
theorem dX1_restore_23 : decode cX1_restore 23 = .ok (.invokevirtual 46, 3) := by decide +kernel
theorem dX1_restore_26 : decode cX1_restore 26 = .ok (.ifCond .eq 6, 3) := by decide +kernel
theorem dX1_restore_29 : decode cX1_restore 29 = .ok (.iinc 2 1, 3) := by decide +kernel
theorem dX1_restore_32 : decode cX1_restore 32 = .ok (.aload_n 0, 1) := by decide +kernel
theorem dX1_restore_33 : decode cX1_restore 33 = .ok (.iload_n 1, 1) := by decide +kernel
theorem dX1_restore_34 : decode cX1_restore 34 = .ok (.iload_n 3, 1) := by decide +kernel
theorem dX1_restore_35 : decode cX1_restore 35 = .ok (.invokevirtual 50, 3) := by decide +kernel
theorem dX1_restore_38 : decode cX1_restore 38 = .ok (.iinc 3 1, 3) := by decide +kernel
theorem dX1_restore_41 : decode cX1_restore 41 = .ok (.goto (-27), 3) := by decide +kernel
theorem dX1_restore_44 : decode cX1_restore 44 = .ok (.iload_n 2, 1) := by decide +kernel
theorem dX1_restore_45 : decode cX1_restore 45 = .ok (.ireturn, 1) := by decide +kernel
abbrev cX1_badPoint : ByteArray := prog_3_method_3_code
def yX1_badPoint : MethodName := ⟨RX1, "badPoint", "(I)Z"⟩
theorem dX1_badPoint_0 : decode cX1_badPoint 0 = .ok (.iload_n 1, 1) := by decide +kernel
theorem dX1_badPoint_1 : decode cX1_badPoint 1 = .ok (.ifCond .lt 17, 3) := by decide +kernel
theorem dX1_badPoint_4 : decode cX1_badPoint 4 = .ok (.iload_n 1, 1) := by decide +kernel
theorem dX1_badPoint_5 : decode cX1_badPoint 5 = .ok (.aload_n 0, 1) := by decide +kernel
theorem dX1_badPoint_6 : decode cX1_badPoint 6 = .ok (.getfield 32, 3) := by decide +kernel
theorem dX1_badPoint_9 : decode cX1_badPoint 9 = .ok (.if_icmp .ge 9, 3) := by decide +kernel
theorem dX1_badPoint_12 : decode cX1_badPoint 12 = .ok (.iload_n 1, 1) := by decide +kernel
theorem dX1_badPoint_13 : decode cX1_badPoint 13 = .ok (.bipush 14, 2) := by decide +kernel
theorem dX1_badPoint_15 : decode cX1_badPoint 15 = .ok (.if_icmp .lt 7, 3) := by decide +kernel
theorem dX1_badPoint_18 : decode cX1_badPoint 18 = .ok (.iconst 1, 1) := by decide +kernel
theorem dX1_badPoint_19 : decode cX1_badPoint 19 = .ok (.goto 4, 3) := by decide +kernel
theorem dX1_badPoint_22 : decode cX1_badPoint 22 = .ok (.iconst 0, 1) := by decide +kernel
theorem dX1_badPoint_23 : decode cX1_badPoint 23 = .ok (.ireturn, 1) := by decide +kernel
abbrev cX1_changed : ByteArray := prog_3_method_10_code
def yX1_changed : MethodName := ⟨RX1, "changed", "(II)Z"⟩
theorem dX1_changed_0 : decode cX1_changed 0 = .ok (.aload_n 0, 1) := by decide +kernel
theorem dX1_changed_1 : decode cX1_changed 1 = .ok (.getfield 7, 3) := by decide +kernel
theorem dX1_changed_4 : decode cX1_changed 4 = .ok (.iload_n 2, 1) := by decide +kernel
theorem dX1_changed_5 : decode cX1_changed 5 = .ok (.baload, 1) := by decide +kernel
theorem dX1_changed_6 : decode cX1_changed 6 = .ok (.aload_n 0, 1) := by decide +kernel
theorem dX1_changed_7 : decode cX1_changed 7 = .ok (.getfield 17, 3) := by decide +kernel
theorem dX1_changed_10 : decode cX1_changed 10 = .ok (.bipush 16, 2) := by decide +kernel
theorem dX1_changed_12 : decode cX1_changed 12 = .ok (.iload_n 1, 1) := by decide +kernel
theorem dX1_changed_13 : decode cX1_changed 13 = .ok (.imul, 1) := by decide +kernel
theorem dX1_changed_14 : decode cX1_changed 14 = .ok (.iload_n 2, 1) := by decide +kernel
theorem dX1_changed_15 : decode cX1_changed 15 = .ok (.iadd, 1) := by decide +kernel
theorem dX1_changed_16 : decode cX1_changed 16 = .ok (.baload, 1) := by decide +kernel
theorem dX1_changed_17 : decode cX1_changed 17 = .ok (.if_icmp .ne 23, 3) := by decide +kernel
theorem dX1_changed_20 : decode cX1_changed 20 = .ok (.aload_n 0, 1) := by decide +kernel
theorem dX1_changed_21 : decode cX1_changed 21 = .ok (.getfield 13, 3) := by decide +kernel
theorem dX1_changed_24 : decode cX1_changed 24 = .ok (.iload_n 2, 1) := by decide +kernel
theorem dX1_changed_25 : decode cX1_changed 25 = .ok (.iaload, 1) := by decide +kernel
theorem dX1_changed_26 : decode cX1_changed 26 = .ok (.aload_n 0, 1) := by decide +kernel
theorem dX1_changed_27 : decode cX1_changed 27 = .ok (.getfield 20, 3) := by decide +kernel
theorem dX1_changed_30 : decode cX1_changed 30 = .ok (.bipush 16, 2) := by decide +kernel
theorem dX1_changed_32 : decode cX1_changed 32 = .ok (.iload_n 1, 1) := by decide +kernel
theorem dX1_changed_33 : decode cX1_changed 33 = .ok (.imul, 1) := by decide +kernel
theorem dX1_changed_34 : decode cX1_changed 34 = .ok (.iload_n 2, 1) := by decide +kernel
theorem dX1_changed_35 : decode cX1_changed 35 = .ok (.iadd, 1) := by decide +kernel
theorem dX1_changed_36 : decode cX1_changed 36 = .ok (.iaload, 1) := by decide +kernel
theorem dX1_changed_37 : decode cX1_changed 37 = .ok (.if_icmp .eq 7, 3) := by decide +kernel
theorem dX1_changed_40 : decode cX1_changed 40 = .ok (.iconst 1, 1) := by decide +kernel
theorem dX1_changed_41 : decode cX1_changed 41 = .ok (.goto 4, 3) := by decide +kernel
theorem dX1_changed_44 : decode cX1_changed 44 = .ok (.iconst 0, 1) := by decide +kernel
theorem dX1_changed_45 : decode cX1_changed 45 = .ok (.ireturn, 1) := by decide +kernel
abbrev cX1_back : ByteArray := prog_3_method_11_code
def yX1_back : MethodName := ⟨RX1, "back", "(II)V"⟩
theorem dX1_back_0 : decode cX1_back 0 = .ok (.aload_n 0, 1) := by decide +kernel
theorem dX1_back_1 : decode cX1_back 1 = .ok (.getfield 7, 3) := by decide +kernel
theorem dX1_back_4 : decode cX1_back 4 = .ok (.iload_n 2, 1) := by decide +kernel
theorem dX1_back_5 : decode cX1_back 5 = .ok (.aload_n 0, 1) := by decide +kernel
theorem dX1_back_6 : decode cX1_back 6 = .ok (.getfield 17, 3) := by decide +kernel
theorem dX1_back_9 : decode cX1_back 9 = .ok (.bipush 16, 2) := by decide +kernel
theorem dX1_back_11 : decode cX1_back 11 = .ok (.iload_n 1, 1) := by decide +kernel
theorem dX1_back_12 : decode cX1_back 12 = .ok (.imul, 1) := by decide +kernel
theorem dX1_back_13 : decode cX1_back 13 = .ok (.iload_n 2, 1) := by decide +kernel
theorem dX1_back_14 : decode cX1_back 14 = .ok (.iadd, 1) := by decide +kernel
theorem dX1_back_15 : decode cX1_back 15 = .ok (.baload, 1) := by decide +kernel
theorem dX1_back_16 : decode cX1_back 16 = .ok (.bastore, 1) := by decide +kernel
theorem dX1_back_17 : decode cX1_back 17 = .ok (.aload_n 0, 1) := by decide +kernel
theorem dX1_back_18 : decode cX1_back 18 = .ok (.getfield 13, 3) := by decide +kernel
theorem dX1_back_21 : decode cX1_back 21 = .ok (.iload_n 2, 1) := by decide +kernel
theorem dX1_back_22 : decode cX1_back 22 = .ok (.aload_n 0, 1) := by decide +kernel
theorem dX1_back_23 : decode cX1_back 23 = .ok (.getfield 20, 3) := by decide +kernel
theorem dX1_back_26 : decode cX1_back 26 = .ok (.bipush 16, 2) := by decide +kernel
theorem dX1_back_28 : decode cX1_back 28 = .ok (.iload_n 1, 1) := by decide +kernel
theorem dX1_back_29 : decode cX1_back 29 = .ok (.imul, 1) := by decide +kernel
theorem dX1_back_30 : decode cX1_back 30 = .ok (.iload_n 2, 1) := by decide +kernel
theorem dX1_back_31 : decode cX1_back 31 = .ok (.iadd, 1) := by decide +kernel
theorem dX1_back_32 : decode cX1_back 32 = .ok (.iaload, 1) := by decide +kernel
theorem dX1_back_33 : decode cX1_back 33 = .ok (.iastore, 1) := by decide +kernel
theorem dX1_back_34 : decode cX1_back 34 = .ok (.return_, 1) := by decide +kernel
abbrev cX1_restoreFile : ByteArray := prog_3_method_13_code
def yX1_restoreFile : MethodName := ⟨RX1, "restoreFile", "(II)I"⟩
theorem dX1_restoreFile_0 : decode cX1_restoreFile 0 = .ok (.aload_n 0, 1) := by decide +kernel
theorem dX1_restoreFile_1 : decode cX1_restoreFile 1 = .ok (.iload_n 1, 1) := by decide +kernel
theorem dX1_restoreFile_2 : decode cX1_restoreFile 2 = .ok (.invokevirtual 43, 3) := by decide +kernel
theorem dX1_restoreFile_5 : decode cX1_restoreFile 5 = .ok (.ifCond .eq 5, 3) := by decide +kernel
theorem dX1_restoreFile_8 : decode cX1_restoreFile 8 = .ok (.iconst (-1), 1) := by decide +kernel
theorem dX1_restoreFile_9 : decode cX1_restoreFile 9 = .ok (.ireturn, 1) := by decide +kernel
theorem dX1_restoreFile_10 : decode cX1_restoreFile 10 = .ok (.aload_n 0, 1) := by decide +kernel
theorem dX1_restoreFile_11 : decode cX1_restoreFile 11 = .ok (.iload_n 2, 1) := by decide +kernel
theorem dX1_restoreFile_12 : decode cX1_restoreFile 12 = .ok (.invokevirtual 36, 3) := by decide +kernel
theorem dX1_restoreFile_15 : decode cX1_restoreFile 15 = .ok (.ifCond .eq 6, 3) := by decide +kernel
theorem dX1_restoreFile_18 : decode cX1_restoreFile 18 = .ok (.bipush (-2), 2) := by decide +kernel
theorem dX1_restoreFile_20 : decode cX1_restoreFile 20 = .ok (.ireturn, 1) := by decide +kernel
theorem dX1_restoreFile_21 : decode cX1_restoreFile 21 = .ok (.aload_n 0, 1) := by decide +kernel
theorem dX1_restoreFile_22 : decode cX1_restoreFile 22 = .ok (.iload_n 1, 1) := by decide +kernel
theorem dX1_restoreFile_23 : decode cX1_restoreFile 23 = .ok (.iload_n 2, 1) := by decide +kernel
theorem dX1_restoreFile_24 : decode cX1_restoreFile 24 = .ok (.invokevirtual 46, 3) := by decide +kernel
theorem dX1_restoreFile_27 : decode cX1_restoreFile 27 = .ok (.ifCond .eq 7, 3) := by decide +kernel
theorem dX1_restoreFile_30 : decode cX1_restoreFile 30 = .ok (.iconst 1, 1) := by decide +kernel
theorem dX1_restoreFile_31 : decode cX1_restoreFile 31 = .ok (.goto 4, 3) := by decide +kernel
theorem dX1_restoreFile_34 : decode cX1_restoreFile 34 = .ok (.iconst 0, 1) := by decide +kernel
theorem dX1_restoreFile_35 : decode cX1_restoreFile 35 = .ok (.istore_n 3, 1) := by decide +kernel
theorem dX1_restoreFile_36 : decode cX1_restoreFile 36 = .ok (.aload_n 0, 1) := by decide +kernel
theorem dX1_restoreFile_37 : decode cX1_restoreFile 37 = .ok (.iload_n 1, 1) := by decide +kernel
theorem dX1_restoreFile_38 : decode cX1_restoreFile 38 = .ok (.iload_n 2, 1) := by decide +kernel
theorem dX1_restoreFile_39 : decode cX1_restoreFile 39 = .ok (.invokevirtual 50, 3) := by decide +kernel
theorem dX1_restoreFile_42 : decode cX1_restoreFile 42 = .ok (.iload_n 3, 1) := by decide +kernel
theorem dX1_restoreFile_43 : decode cX1_restoreFile 43 = .ok (.ireturn, 1) := by decide +kernel
abbrev cX1_pin : ByteArray := prog_3_method_14_code
def yX1_pin : MethodName := ⟨RX1, "pin", "(II)I"⟩
theorem dX1_pin_0 : decode cX1_pin 0 = .ok (.aload_n 0, 1) := by decide +kernel
theorem dX1_pin_1 : decode cX1_pin 1 = .ok (.iload_n 1, 1) := by decide +kernel
theorem dX1_pin_2 : decode cX1_pin 2 = .ok (.invokevirtual 43, 3) := by decide +kernel
theorem dX1_pin_5 : decode cX1_pin 5 = .ok (.ifCond .eq 5, 3) := by decide +kernel
theorem dX1_pin_8 : decode cX1_pin 8 = .ok (.iconst (-1), 1) := by decide +kernel
theorem dX1_pin_9 : decode cX1_pin 9 = .ok (.ireturn, 1) := by decide +kernel
theorem dX1_pin_10 : decode cX1_pin 10 = .ok (.aload_n 0, 1) := by decide +kernel
theorem dX1_pin_11 : decode cX1_pin 11 = .ok (.getfield 26, 3) := by decide +kernel
theorem dX1_pin_14 : decode cX1_pin 14 = .ok (.iload_n 1, 1) := by decide +kernel
theorem dX1_pin_15 : decode cX1_pin 15 = .ok (.baload, 1) := by decide +kernel
theorem dX1_pin_16 : decode cX1_pin 16 = .ok (.ifCond .eq 7, 3) := by decide +kernel
theorem dX1_pin_19 : decode cX1_pin 19 = .ok (.iconst 1, 1) := by decide +kernel
theorem dX1_pin_20 : decode cX1_pin 20 = .ok (.goto 4, 3) := by decide +kernel
theorem dX1_pin_23 : decode cX1_pin 23 = .ok (.iconst 0, 1) := by decide +kernel
theorem dX1_pin_24 : decode cX1_pin 24 = .ok (.istore_n 3, 1) := by decide +kernel
theorem dX1_pin_25 : decode cX1_pin 25 = .ok (.aload_n 0, 1) := by decide +kernel
theorem dX1_pin_26 : decode cX1_pin 26 = .ok (.getfield 26, 3) := by decide +kernel
theorem dX1_pin_29 : decode cX1_pin 29 = .ok (.iload_n 1, 1) := by decide +kernel
theorem dX1_pin_30 : decode cX1_pin 30 = .ok (.iload_n 2, 1) := by decide +kernel
theorem dX1_pin_31 : decode cX1_pin 31 = .ok (.ifCond .eq 7, 3) := by decide +kernel
theorem dX1_pin_34 : decode cX1_pin 34 = .ok (.iconst 1, 1) := by decide +kernel
theorem dX1_pin_35 : decode cX1_pin 35 = .ok (.goto 4, 3) := by decide +kernel
theorem dX1_pin_38 : decode cX1_pin 38 = .ok (.iconst 0, 1) := by decide +kernel
theorem dX1_pin_39 : decode cX1_pin 39 = .ok (.bastore, 1) := by decide +kernel
theorem dX1_pin_40 : decode cX1_pin 40 = .ok (.iload_n 3, 1) := by decide +kernel
theorem dX1_pin_41 : decode cX1_pin 41 = .ok (.ireturn, 1) := by decide +kernel
abbrev cX1_forget : ByteArray := prog_3_method_16_code
def yX1_forget : MethodName := ⟨RX1, "forget", "(I)I"⟩
theorem dX1_forget_0 : decode cX1_forget 0 = .ok (.aload_n 0, 1) := by decide +kernel
theorem dX1_forget_1 : decode cX1_forget 1 = .ok (.iload_n 1, 1) := by decide +kernel
theorem dX1_forget_2 : decode cX1_forget 2 = .ok (.invokevirtual 43, 3) := by decide +kernel
theorem dX1_forget_5 : decode cX1_forget 5 = .ok (.ifCond .eq 5, 3) := by decide +kernel
theorem dX1_forget_8 : decode cX1_forget 8 = .ok (.iconst (-1), 1) := by decide +kernel
theorem dX1_forget_9 : decode cX1_forget 9 = .ok (.ireturn, 1) := by decide +kernel
theorem dX1_forget_10 : decode cX1_forget 10 = .ok (.aload_n 0, 1) := by decide +kernel
theorem dX1_forget_11 : decode cX1_forget 11 = .ok (.getfield 26, 3) := by decide +kernel
theorem dX1_forget_14 : decode cX1_forget 14 = .ok (.iload_n 1, 1) := by decide +kernel
theorem dX1_forget_15 : decode cX1_forget 15 = .ok (.baload, 1) := by decide +kernel
theorem dX1_forget_16 : decode cX1_forget 16 = .ok (.ifCond .eq 6, 3) := by decide +kernel
theorem dX1_forget_19 : decode cX1_forget 19 = .ok (.bipush (-2), 2) := by decide +kernel
theorem dX1_forget_21 : decode cX1_forget 21 = .ok (.ireturn, 1) := by decide +kernel
theorem dX1_forget_22 : decode cX1_forget 22 = .ok (.aload_n 0, 1) := by decide +kernel
theorem dX1_forget_23 : decode cX1_forget 23 = .ok (.iload_n 1, 1) := by decide +kernel
theorem dX1_forget_24 : decode cX1_forget 24 = .ok (.invokevirtual 54, 3) := by decide +kernel
theorem dX1_forget_27 : decode cX1_forget 27 = .ok (.aload_n 0, 1) := by decide +kernel
theorem dX1_forget_28 : decode cX1_forget 28 = .ok (.getfield 32, 3) := by decide +kernel
theorem dX1_forget_31 : decode cX1_forget 31 = .ok (.ireturn, 1) := by decide +kernel
end
section
set_option maxRecDepth 100000
abbrev cX1_takeOut : ByteArray := prog_3_method_15_code
def yX1_takeOut : MethodName := ⟨RX1, "takeOut", "(I)V"⟩
theorem dX1_takeOut_0 : decode cX1_takeOut 0 = .ok (.iload_n 1, 1) := by decide +kernel
theorem dX1_takeOut_1 : decode cX1_takeOut 1 = .ok (.istore_n 2, 1) := by decide +kernel
theorem dX1_takeOut_2 : decode cX1_takeOut 2 = .ok (.iload_n 2, 1) := by decide +kernel
theorem dX1_takeOut_3 : decode cX1_takeOut 3 = .ok (.aload_n 0, 1) := by decide +kernel
theorem dX1_takeOut_4 : decode cX1_takeOut 4 = .ok (.getfield 32, 3) := by decide +kernel
theorem dX1_takeOut_7 : decode cX1_takeOut 7 = .ok (.iconst 1, 1) := by decide +kernel
theorem dX1_takeOut_8 : decode cX1_takeOut 8 = .ok (.isub, 1) := by decide +kernel
theorem dX1_takeOut_9 : decode cX1_takeOut 9 = .ok (.if_icmp .ge 119, 3) := by decide +kernel
theorem dX1_takeOut_12 : decode cX1_takeOut 12 = .ok (.iload_n 2, 1) := by decide +kernel
theorem dX1_takeOut_13 : decode cX1_takeOut 13 = .ok (.bipush 13, 2) := by decide +kernel
theorem dX1_takeOut_15 : decode cX1_takeOut 15 = .ok (.if_icmp .ge 113, 3) := by decide +kernel
theorem dX1_takeOut_18 : decode cX1_takeOut 18 = .ok (.iconst 0, 1) := by decide +kernel
theorem dX1_takeOut_19 : decode cX1_takeOut 19 = .ok (.istore_n 3, 1) := by decide +kernel
theorem dX1_takeOut_20 : decode cX1_takeOut 20 = .ok (.iload_n 3, 1) := by decide +kernel
theorem dX1_takeOut_21 : decode cX1_takeOut 21 = .ok (.bipush 16, 2) := by decide +kernel
theorem dX1_takeOut_23 : decode cX1_takeOut 23 = .ok (.if_icmp .ge 57, 3) := by decide +kernel
theorem dX1_takeOut_26 : decode cX1_takeOut 26 = .ok (.aload_n 0, 1) := by decide +kernel
theorem dX1_takeOut_27 : decode cX1_takeOut 27 = .ok (.getfield 17, 3) := by decide +kernel
theorem dX1_takeOut_30 : decode cX1_takeOut 30 = .ok (.bipush 16, 2) := by decide +kernel
theorem dX1_takeOut_32 : decode cX1_takeOut 32 = .ok (.iload_n 2, 1) := by decide +kernel
theorem dX1_takeOut_33 : decode cX1_takeOut 33 = .ok (.imul, 1) := by decide +kernel
theorem dX1_takeOut_34 : decode cX1_takeOut 34 = .ok (.iload_n 3, 1) := by decide +kernel
theorem dX1_takeOut_35 : decode cX1_takeOut 35 = .ok (.iadd, 1) := by decide +kernel
theorem dX1_takeOut_36 : decode cX1_takeOut 36 = .ok (.aload_n 0, 1) := by decide +kernel
theorem dX1_takeOut_37 : decode cX1_takeOut 37 = .ok (.getfield 17, 3) := by decide +kernel
theorem dX1_takeOut_40 : decode cX1_takeOut 40 = .ok (.bipush 16, 2) := by decide +kernel
theorem dX1_takeOut_42 : decode cX1_takeOut 42 = .ok (.iload_n 2, 1) := by decide +kernel
theorem dX1_takeOut_43 : decode cX1_takeOut 43 = .ok (.iconst 1, 1) := by decide +kernel
theorem dX1_takeOut_44 : decode cX1_takeOut 44 = .ok (.iadd, 1) := by decide +kernel
theorem dX1_takeOut_45 : decode cX1_takeOut 45 = .ok (.imul, 1) := by decide +kernel
theorem dX1_takeOut_46 : decode cX1_takeOut 46 = .ok (.iload_n 3, 1) := by decide +kernel
theorem dX1_takeOut_47 : decode cX1_takeOut 47 = .ok (.iadd, 1) := by decide +kernel
theorem dX1_takeOut_48 : decode cX1_takeOut 48 = .ok (.baload, 1) := by decide +kernel
theorem dX1_takeOut_49 : decode cX1_takeOut 49 = .ok (.bastore, 1) := by decide +kernel
theorem dX1_takeOut_50 : decode cX1_takeOut 50 = .ok (.aload_n 0, 1) := by decide +kernel
theorem dX1_takeOut_51 : decode cX1_takeOut 51 = .ok (.getfield 20, 3) := by decide +kernel
theorem dX1_takeOut_54 : decode cX1_takeOut 54 = .ok (.bipush 16, 2) := by decide +kernel
theorem dX1_takeOut_56 : decode cX1_takeOut 56 = .ok (.iload_n 2, 1) := by decide +kernel
theorem dX1_takeOut_57 : decode cX1_takeOut 57 = .ok (.imul, 1) := by decide +kernel
theorem dX1_takeOut_58 : decode cX1_takeOut 58 = .ok (.iload_n 3, 1) := by decide +kernel
theorem dX1_takeOut_59 : decode cX1_takeOut 59 = .ok (.iadd, 1) := by decide +kernel
theorem dX1_takeOut_60 : decode cX1_takeOut 60 = .ok (.aload_n 0, 1) := by decide +kernel
theorem dX1_takeOut_61 : decode cX1_takeOut 61 = .ok (.getfield 20, 3) := by decide +kernel
theorem dX1_takeOut_64 : decode cX1_takeOut 64 = .ok (.bipush 16, 2) := by decide +kernel
theorem dX1_takeOut_66 : decode cX1_takeOut 66 = .ok (.iload_n 2, 1) := by decide +kernel
theorem dX1_takeOut_67 : decode cX1_takeOut 67 = .ok (.iconst 1, 1) := by decide +kernel
theorem dX1_takeOut_68 : decode cX1_takeOut 68 = .ok (.iadd, 1) := by decide +kernel
theorem dX1_takeOut_69 : decode cX1_takeOut 69 = .ok (.imul, 1) := by decide +kernel
theorem dX1_takeOut_70 : decode cX1_takeOut 70 = .ok (.iload_n 3, 1) := by decide +kernel
theorem dX1_takeOut_71 : decode cX1_takeOut 71 = .ok (.iadd, 1) := by decide +kernel
theorem dX1_takeOut_72 : decode cX1_takeOut 72 = .ok (.iaload, 1) := by decide +kernel
theorem dX1_takeOut_73 : decode cX1_takeOut 73 = .ok (.iastore, 1) := by decide +kernel
theorem dX1_takeOut_74 : decode cX1_takeOut 74 = .ok (.iinc 3 1, 3) := by decide +kernel
theorem dX1_takeOut_77 : decode cX1_takeOut 77 = .ok (.goto (-57), 3) := by decide +kernel
theorem dX1_takeOut_80 : decode cX1_takeOut 80 = .ok (.aload_n 0, 1) := by decide +kernel
theorem dX1_takeOut_81 : decode cX1_takeOut 81 = .ok (.getfield 23, 3) := by decide +kernel
theorem dX1_takeOut_84 : decode cX1_takeOut 84 = .ok (.iload_n 2, 1) := by decide +kernel
theorem dX1_takeOut_85 : decode cX1_takeOut 85 = .ok (.aload_n 0, 1) := by decide +kernel
theorem dX1_takeOut_86 : decode cX1_takeOut 86 = .ok (.getfield 23, 3) := by decide +kernel
theorem dX1_takeOut_89 : decode cX1_takeOut 89 = .ok (.iload_n 2, 1) := by decide +kernel
theorem dX1_takeOut_90 : decode cX1_takeOut 90 = .ok (.iconst 1, 1) := by decide +kernel
theorem dX1_takeOut_91 : decode cX1_takeOut 91 = .ok (.iadd, 1) := by decide +kernel
theorem dX1_takeOut_92 : decode cX1_takeOut 92 = .ok (.iaload, 1) := by decide +kernel
theorem dX1_takeOut_93 : decode cX1_takeOut 93 = .ok (.iastore, 1) := by decide +kernel
theorem dX1_takeOut_94 : decode cX1_takeOut 94 = .ok (.aload_n 0, 1) := by decide +kernel
theorem dX1_takeOut_95 : decode cX1_takeOut 95 = .ok (.getfield 26, 3) := by decide +kernel
theorem dX1_takeOut_98 : decode cX1_takeOut 98 = .ok (.iload_n 2, 1) := by decide +kernel
theorem dX1_takeOut_99 : decode cX1_takeOut 99 = .ok (.aload_n 0, 1) := by decide +kernel
theorem dX1_takeOut_100 : decode cX1_takeOut 100 = .ok (.getfield 26, 3) := by decide +kernel
theorem dX1_takeOut_103 : decode cX1_takeOut 103 = .ok (.iload_n 2, 1) := by decide +kernel
theorem dX1_takeOut_104 : decode cX1_takeOut 104 = .ok (.iconst 1, 1) := by decide +kernel
theorem dX1_takeOut_105 : decode cX1_takeOut 105 = .ok (.iadd, 1) := by decide +kernel
theorem dX1_takeOut_106 : decode cX1_takeOut 106 = .ok (.baload, 1) := by decide +kernel
theorem dX1_takeOut_107 : decode cX1_takeOut 107 = .ok (.bastore, 1) := by decide +kernel
theorem dX1_takeOut_108 : decode cX1_takeOut 108 = .ok (.aload_n 0, 1) := by decide +kernel
theorem dX1_takeOut_109 : decode cX1_takeOut 109 = .ok (.getfield 29, 3) := by decide +kernel
theorem dX1_takeOut_112 : decode cX1_takeOut 112 = .ok (.iload_n 2, 1) := by decide +kernel
theorem dX1_takeOut_113 : decode cX1_takeOut 113 = .ok (.aload_n 0, 1) := by decide +kernel
theorem dX1_takeOut_114 : decode cX1_takeOut 114 = .ok (.getfield 29, 3) := by decide +kernel
theorem dX1_takeOut_117 : decode cX1_takeOut 117 = .ok (.iload_n 2, 1) := by decide +kernel
theorem dX1_takeOut_118 : decode cX1_takeOut 118 = .ok (.iconst 1, 1) := by decide +kernel
theorem dX1_takeOut_119 : decode cX1_takeOut 119 = .ok (.iadd, 1) := by decide +kernel
theorem dX1_takeOut_120 : decode cX1_takeOut 120 = .ok (.baload, 1) := by decide +kernel
theorem dX1_takeOut_121 : decode cX1_takeOut 121 = .ok (.bastore, 1) := by decide +kernel
theorem dX1_takeOut_122 : decode cX1_takeOut 122 = .ok (.iinc 2 1, 3) := by decide +kernel
theorem dX1_takeOut_125 : decode cX1_takeOut 125 = .ok (.goto (-123), 3) := by decide +kernel
theorem dX1_takeOut_128 : decode cX1_takeOut 128 = .ok (.aload_n 0, 1) := by decide +kernel
theorem dX1_takeOut_129 : decode cX1_takeOut 129 = .ok (.dup, 1) := by decide +kernel
theorem dX1_takeOut_130 : decode cX1_takeOut 130 = .ok (.getfield 32, 3) := by decide +kernel
theorem dX1_takeOut_133 : decode cX1_takeOut 133 = .ok (.iconst 1, 1) := by decide +kernel
theorem dX1_takeOut_134 : decode cX1_takeOut 134 = .ok (.isub, 1) := by decide +kernel
theorem dX1_takeOut_135 : decode cX1_takeOut 135 = .ok (.putfield 32, 3) := by decide +kernel
theorem dX1_takeOut_138 : decode cX1_takeOut 138 = .ok (.return_, 1) := by decide +kernel
abbrev cX1_prune : ByteArray := prog_3_method_19_code
def yX1_prune : MethodName := ⟨RX1, "prune", "(I)I"⟩
theorem dX1_prune_0 : decode cX1_prune 0 = .ok (.iload_n 1, 1) := by decide +kernel
theorem dX1_prune_1 : decode cX1_prune 1 = .ok (.ifCond .lt 10, 3) := by decide +kernel
theorem dX1_prune_4 : decode cX1_prune 4 = .ok (.iload_n 1, 1) := by decide +kernel
theorem dX1_prune_5 : decode cX1_prune 5 = .ok (.sipush 999, 3) := by decide +kernel
theorem dX1_prune_8 : decode cX1_prune 8 = .ok (.if_icmp .le 5, 3) := by decide +kernel
theorem dX1_prune_11 : decode cX1_prune 11 = .ok (.iconst (-1), 1) := by decide +kernel
theorem dX1_prune_12 : decode cX1_prune 12 = .ok (.ireturn, 1) := by decide +kernel
theorem dX1_prune_13 : decode cX1_prune 13 = .ok (.iconst 0, 1) := by decide +kernel
theorem dX1_prune_14 : decode cX1_prune 14 = .ok (.istore_n 2, 1) := by decide +kernel
theorem dX1_prune_15 : decode cX1_prune 15 = .ok (.iload_n 2, 1) := by decide +kernel
theorem dX1_prune_16 : decode cX1_prune 16 = .ok (.bipush 14, 2) := by decide +kernel
theorem dX1_prune_18 : decode cX1_prune 18 = .ok (.if_icmp .ge 47, 3) := by decide +kernel
theorem dX1_prune_21 : decode cX1_prune 21 = .ok (.aload_n 0, 1) := by decide +kernel
theorem dX1_prune_22 : decode cX1_prune 22 = .ok (.getfield 29, 3) := by decide +kernel
theorem dX1_prune_25 : decode cX1_prune 25 = .ok (.iload_n 2, 1) := by decide +kernel
theorem dX1_prune_26 : decode cX1_prune 26 = .ok (.iload_n 2, 1) := by decide +kernel
theorem dX1_prune_27 : decode cX1_prune 27 = .ok (.aload_n 0, 1) := by decide +kernel
theorem dX1_prune_28 : decode cX1_prune 28 = .ok (.getfield 32, 3) := by decide +kernel
theorem dX1_prune_31 : decode cX1_prune 31 = .ok (.if_icmp .ge 26, 3) := by decide +kernel
theorem dX1_prune_34 : decode cX1_prune 34 = .ok (.aload_n 0, 1) := by decide +kernel
theorem dX1_prune_35 : decode cX1_prune 35 = .ok (.getfield 26, 3) := by decide +kernel
theorem dX1_prune_38 : decode cX1_prune 38 = .ok (.iload_n 2, 1) := by decide +kernel
theorem dX1_prune_39 : decode cX1_prune 39 = .ok (.baload, 1) := by decide +kernel
theorem dX1_prune_40 : decode cX1_prune 40 = .ok (.ifCond .ne 13, 3) := by decide +kernel
theorem dX1_prune_43 : decode cX1_prune 43 = .ok (.iload_n 2, 1) := by decide +kernel
theorem dX1_prune_44 : decode cX1_prune 44 = .ok (.aload_n 0, 1) := by decide +kernel
theorem dX1_prune_45 : decode cX1_prune 45 = .ok (.getfield 32, 3) := by decide +kernel
theorem dX1_prune_48 : decode cX1_prune 48 = .ok (.iconst 1, 1) := by decide +kernel
theorem dX1_prune_49 : decode cX1_prune 49 = .ok (.isub, 1) := by decide +kernel
theorem dX1_prune_50 : decode cX1_prune 50 = .ok (.if_icmp .ne 7, 3) := by decide +kernel
theorem dX1_prune_53 : decode cX1_prune 53 = .ok (.iconst 1, 1) := by decide +kernel
theorem dX1_prune_54 : decode cX1_prune 54 = .ok (.goto 4, 3) := by decide +kernel
theorem dX1_prune_57 : decode cX1_prune 57 = .ok (.iconst 0, 1) := by decide +kernel
theorem dX1_prune_58 : decode cX1_prune 58 = .ok (.bastore, 1) := by decide +kernel
theorem dX1_prune_59 : decode cX1_prune 59 = .ok (.iinc 2 1, 3) := by decide +kernel
theorem dX1_prune_62 : decode cX1_prune 62 = .ok (.goto (-47), 3) := by decide +kernel
theorem dX1_prune_65 : decode cX1_prune 65 = .ok (.aload_n 0, 1) := by decide +kernel
theorem dX1_prune_66 : decode cX1_prune 66 = .ok (.iconst 1, 1) := by decide +kernel
theorem dX1_prune_67 : decode cX1_prune 67 = .ok (.iload_n 1, 1) := by decide +kernel
theorem dX1_prune_68 : decode cX1_prune 68 = .ok (.bipush 100, 2) := by decide +kernel
theorem dX1_prune_70 : decode cX1_prune 70 = .ok (.idiv, 1) := by decide +kernel
theorem dX1_prune_71 : decode cX1_prune 71 = .ok (.invokevirtual 61, 3) := by decide +kernel
theorem dX1_prune_74 : decode cX1_prune 74 = .ok (.aload_n 0, 1) := by decide +kernel
theorem dX1_prune_75 : decode cX1_prune 75 = .ok (.bipush 7, 2) := by decide +kernel
theorem dX1_prune_77 : decode cX1_prune 77 = .ok (.iload_n 1, 1) := by decide +kernel
theorem dX1_prune_78 : decode cX1_prune 78 = .ok (.bipush 10, 2) := by decide +kernel
theorem dX1_prune_80 : decode cX1_prune 80 = .ok (.idiv, 1) := by decide +kernel
theorem dX1_prune_81 : decode cX1_prune 81 = .ok (.bipush 10, 2) := by decide +kernel
theorem dX1_prune_83 : decode cX1_prune 83 = .ok (.irem, 1) := by decide +kernel
theorem dX1_prune_84 : decode cX1_prune 84 = .ok (.invokevirtual 61, 3) := by decide +kernel
theorem dX1_prune_87 : decode cX1_prune 87 = .ok (.aload_n 0, 1) := by decide +kernel
theorem dX1_prune_88 : decode cX1_prune 88 = .ok (.bipush 28, 2) := by decide +kernel
theorem dX1_prune_90 : decode cX1_prune 90 = .ok (.iload_n 1, 1) := by decide +kernel
theorem dX1_prune_91 : decode cX1_prune 91 = .ok (.bipush 10, 2) := by decide +kernel
theorem dX1_prune_93 : decode cX1_prune 93 = .ok (.irem, 1) := by decide +kernel
theorem dX1_prune_94 : decode cX1_prune 94 = .ok (.invokevirtual 61, 3) := by decide +kernel
theorem dX1_prune_97 : decode cX1_prune 97 = .ok (.iconst 0, 1) := by decide +kernel
theorem dX1_prune_98 : decode cX1_prune 98 = .ok (.istore_n 2, 1) := by decide +kernel
theorem dX1_prune_99 : decode cX1_prune 99 = .ok (.bipush 13, 2) := by decide +kernel
theorem dX1_prune_101 : decode cX1_prune 101 = .ok (.istore_n 3, 1) := by decide +kernel
theorem dX1_prune_102 : decode cX1_prune 102 = .ok (.iload_n 3, 1) := by decide +kernel
theorem dX1_prune_103 : decode cX1_prune 103 = .ok (.ifCond .lt 34, 3) := by decide +kernel
theorem dX1_prune_106 : decode cX1_prune 106 = .ok (.iload_n 3, 1) := by decide +kernel
theorem dX1_prune_107 : decode cX1_prune 107 = .ok (.aload_n 0, 1) := by decide +kernel
theorem dX1_prune_108 : decode cX1_prune 108 = .ok (.getfield 32, 3) := by decide +kernel
theorem dX1_prune_111 : decode cX1_prune 111 = .ok (.if_icmp .ge 20, 3) := by decide +kernel
theorem dX1_prune_114 : decode cX1_prune 114 = .ok (.aload_n 0, 1) := by decide +kernel
theorem dX1_prune_115 : decode cX1_prune 115 = .ok (.getfield 29, 3) := by decide +kernel
theorem dX1_prune_118 : decode cX1_prune 118 = .ok (.iload_n 3, 1) := by decide +kernel
theorem dX1_prune_119 : decode cX1_prune 119 = .ok (.baload, 1) := by decide +kernel
theorem dX1_prune_120 : decode cX1_prune 120 = .ok (.ifCond .ne 11, 3) := by decide +kernel
theorem dX1_prune_123 : decode cX1_prune 123 = .ok (.aload_n 0, 1) := by decide +kernel
theorem dX1_prune_124 : decode cX1_prune 124 = .ok (.iload_n 3, 1) := by decide +kernel
theorem dX1_prune_125 : decode cX1_prune 125 = .ok (.invokevirtual 54, 3) := by decide +kernel
theorem dX1_prune_128 : decode cX1_prune 128 = .ok (.iinc 2 1, 3) := by decide +kernel
theorem dX1_prune_131 : decode cX1_prune 131 = .ok (.iinc 3 (-1), 3) := by decide +kernel
theorem dX1_prune_134 : decode cX1_prune 134 = .ok (.goto (-32), 3) := by decide +kernel
theorem dX1_prune_137 : decode cX1_prune 137 = .ok (.iload_n 2, 1) := by decide +kernel
theorem dX1_prune_138 : decode cX1_prune 138 = .ok (.ireturn, 1) := by decide +kernel
abbrev cX1_keep : ByteArray := prog_3_method_18_code
def yX1_keep : MethodName := ⟨RX1, "keep", "(II)V"⟩
theorem dX1_keep_0 : decode cX1_keep 0 = .ok (.iconst 0, 1) := by decide +kernel
theorem dX1_keep_1 : decode cX1_keep 1 = .ok (.istore_n 3, 1) := by decide +kernel
theorem dX1_keep_2 : decode cX1_keep 2 = .ok (.bipush 13, 2) := by decide +kernel
theorem dX1_keep_4 : decode cX1_keep 4 = .ok (.istore 4, 2) := by decide +kernel
theorem dX1_keep_6 : decode cX1_keep 6 = .ok (.iload 4, 2) := by decide +kernel
theorem dX1_keep_8 : decode cX1_keep 8 = .ok (.ifCond .lt 44, 3) := by decide +kernel
theorem dX1_keep_11 : decode cX1_keep 11 = .ok (.iload 4, 2) := by decide +kernel
theorem dX1_keep_13 : decode cX1_keep 13 = .ok (.aload_n 0, 1) := by decide +kernel
theorem dX1_keep_14 : decode cX1_keep 14 = .ok (.getfield 32, 3) := by decide +kernel
theorem dX1_keep_17 : decode cX1_keep 17 = .ok (.if_icmp .ge 29, 3) := by decide +kernel
theorem dX1_keep_20 : decode cX1_keep 20 = .ok (.iload_n 3, 1) := by decide +kernel
theorem dX1_keep_21 : decode cX1_keep 21 = .ok (.iload_n 2, 1) := by decide +kernel
theorem dX1_keep_22 : decode cX1_keep 22 = .ok (.if_icmp .ge 24, 3) := by decide +kernel
theorem dX1_keep_25 : decode cX1_keep 25 = .ok (.aload_n 0, 1) := by decide +kernel
theorem dX1_keep_26 : decode cX1_keep 26 = .ok (.iload 4, 2) := by decide +kernel
theorem dX1_keep_28 : decode cX1_keep 28 = .ok (.iload_n 1, 1) := by decide +kernel
theorem dX1_keep_29 : decode cX1_keep 29 = .ok (.invokevirtual 58, 3) := by decide +kernel
theorem dX1_keep_32 : decode cX1_keep 32 = .ok (.ifCond .eq 14, 3) := by decide +kernel
theorem dX1_keep_35 : decode cX1_keep 35 = .ok (.aload_n 0, 1) := by decide +kernel
theorem dX1_keep_36 : decode cX1_keep 36 = .ok (.getfield 29, 3) := by decide +kernel
theorem dX1_keep_39 : decode cX1_keep 39 = .ok (.iload 4, 2) := by decide +kernel
theorem dX1_keep_41 : decode cX1_keep 41 = .ok (.iconst 1, 1) := by decide +kernel
theorem dX1_keep_42 : decode cX1_keep 42 = .ok (.bastore, 1) := by decide +kernel
theorem dX1_keep_43 : decode cX1_keep 43 = .ok (.iinc 3 1, 3) := by decide +kernel
theorem dX1_keep_46 : decode cX1_keep 46 = .ok (.iinc 4 (-1), 3) := by decide +kernel
theorem dX1_keep_49 : decode cX1_keep 49 = .ok (.goto (-43), 3) := by decide +kernel
theorem dX1_keep_52 : decode cX1_keep 52 = .ok (.return_, 1) := by decide +kernel
abbrev cX1_head : ByteArray := prog_3_method_17_code
def yX1_head : MethodName := ⟨RX1, "head", "(II)Z"⟩
theorem dX1_head_0 : decode cX1_head 0 = .ok (.iload_n 2, 1) := by decide +kernel
theorem dX1_head_1 : decode cX1_head 1 = .ok (.iconst 1, 1) := by decide +kernel
theorem dX1_head_2 : decode cX1_head 2 = .ok (.if_icmp .ge 7, 3) := by decide +kernel
theorem dX1_head_5 : decode cX1_head 5 = .ok (.iconst 1, 1) := by decide +kernel
theorem dX1_head_6 : decode cX1_head 6 = .ok (.goto 4, 3) := by decide +kernel
theorem dX1_head_9 : decode cX1_head 9 = .ok (.iload_n 2, 1) := by decide +kernel
theorem dX1_head_10 : decode cX1_head 10 = .ok (.istore_n 3, 1) := by decide +kernel
theorem dX1_head_11 : decode cX1_head 11 = .ok (.iload_n 1, 1) := by decide +kernel
theorem dX1_head_12 : decode cX1_head 12 = .ok (.iconst 1, 1) := by decide +kernel
theorem dX1_head_13 : decode cX1_head 13 = .ok (.iadd, 1) := by decide +kernel
theorem dX1_head_14 : decode cX1_head 14 = .ok (.istore 4, 2) := by decide +kernel
theorem dX1_head_16 : decode cX1_head 16 = .ok (.iload 4, 2) := by decide +kernel
theorem dX1_head_18 : decode cX1_head 18 = .ok (.aload_n 0, 1) := by decide +kernel
theorem dX1_head_19 : decode cX1_head 19 = .ok (.getfield 32, 3) := by decide +kernel
theorem dX1_head_22 : decode cX1_head 22 = .ok (.if_icmp .ge 38, 3) := by decide +kernel
theorem dX1_head_25 : decode cX1_head 25 = .ok (.iload 4, 2) := by decide +kernel
theorem dX1_head_27 : decode cX1_head 27 = .ok (.bipush 14, 2) := by decide +kernel
theorem dX1_head_29 : decode cX1_head 29 = .ok (.if_icmp .ge 31, 3) := by decide +kernel
theorem dX1_head_32 : decode cX1_head 32 = .ok (.aload_n 0, 1) := by decide +kernel
theorem dX1_head_33 : decode cX1_head 33 = .ok (.getfield 23, 3) := by decide +kernel
theorem dX1_head_36 : decode cX1_head 36 = .ok (.iload 4, 2) := by decide +kernel
theorem dX1_head_38 : decode cX1_head 38 = .ok (.iaload, 1) := by decide +kernel
theorem dX1_head_39 : decode cX1_head 39 = .ok (.iload_n 3, 1) := by decide +kernel
theorem dX1_head_40 : decode cX1_head 40 = .ok (.idiv, 1) := by decide +kernel
theorem dX1_head_41 : decode cX1_head 41 = .ok (.aload_n 0, 1) := by decide +kernel
theorem dX1_head_42 : decode cX1_head 42 = .ok (.getfield 23, 3) := by decide +kernel
theorem dX1_head_45 : decode cX1_head 45 = .ok (.iload_n 1, 1) := by decide +kernel
theorem dX1_head_46 : decode cX1_head 46 = .ok (.iaload, 1) := by decide +kernel
theorem dX1_head_47 : decode cX1_head 47 = .ok (.iload_n 3, 1) := by decide +kernel
theorem dX1_head_48 : decode cX1_head 48 = .ok (.idiv, 1) := by decide +kernel
theorem dX1_head_49 : decode cX1_head 49 = .ok (.if_icmp .ne 5, 3) := by decide +kernel
theorem dX1_head_52 : decode cX1_head 52 = .ok (.iconst 0, 1) := by decide +kernel
theorem dX1_head_53 : decode cX1_head 53 = .ok (.ireturn, 1) := by decide +kernel
theorem dX1_head_54 : decode cX1_head 54 = .ok (.iinc 4 1, 3) := by decide +kernel
theorem dX1_head_57 : decode cX1_head 57 = .ok (.goto (-41), 3) := by decide +kernel
theorem dX1_head_60 : decode cX1_head 60 = .ok (.iconst 1, 1) := by decide +kernel
theorem dX1_head_61 : decode cX1_head 61 = .ok (.ireturn, 1) := by decide +kernel
abbrev cX1_points : ByteArray := prog_3_method_20_code
def yX1_points : MethodName := ⟨RX1, "points", "()I"⟩
theorem dX1_points_0 : decode cX1_points 0 = .ok (.aload_n 0, 1) := by decide +kernel
theorem dX1_points_1 : decode cX1_points 1 = .ok (.getfield 32, 3) := by decide +kernel
theorem dX1_points_4 : decode cX1_points 4 = .ok (.ireturn, 1) := by decide +kernel
abbrev cX1_dayOf : ByteArray := prog_3_method_21_code
def yX1_dayOf : MethodName := ⟨RX1, "dayOf", "(I)I"⟩
theorem dX1_dayOf_0 : decode cX1_dayOf 0 = .ok (.aload_n 0, 1) := by decide +kernel
theorem dX1_dayOf_1 : decode cX1_dayOf 1 = .ok (.iload_n 1, 1) := by decide +kernel
theorem dX1_dayOf_2 : decode cX1_dayOf 2 = .ok (.invokevirtual 43, 3) := by decide +kernel
theorem dX1_dayOf_5 : decode cX1_dayOf 5 = .ok (.ifCond .eq 7, 3) := by decide +kernel
theorem dX1_dayOf_8 : decode cX1_dayOf 8 = .ok (.iconst (-1), 1) := by decide +kernel
theorem dX1_dayOf_9 : decode cX1_dayOf 9 = .ok (.goto 9, 3) := by decide +kernel
theorem dX1_dayOf_12 : decode cX1_dayOf 12 = .ok (.aload_n 0, 1) := by decide +kernel
theorem dX1_dayOf_13 : decode cX1_dayOf 13 = .ok (.getfield 23, 3) := by decide +kernel
theorem dX1_dayOf_16 : decode cX1_dayOf 16 = .ok (.iload_n 1, 1) := by decide +kernel
theorem dX1_dayOf_17 : decode cX1_dayOf 17 = .ok (.iaload, 1) := by decide +kernel
theorem dX1_dayOf_18 : decode cX1_dayOf 18 = .ok (.ireturn, 1) := by decide +kernel
abbrev cX1_pinned : ByteArray := prog_3_method_22_code
def yX1_pinned : MethodName := ⟨RX1, "pinned", "(I)I"⟩
theorem dX1_pinned_0 : decode cX1_pinned 0 = .ok (.aload_n 0, 1) := by decide +kernel
theorem dX1_pinned_1 : decode cX1_pinned 1 = .ok (.iload_n 1, 1) := by decide +kernel
theorem dX1_pinned_2 : decode cX1_pinned 2 = .ok (.invokevirtual 43, 3) := by decide +kernel
theorem dX1_pinned_5 : decode cX1_pinned 5 = .ok (.ifCond .eq 5, 3) := by decide +kernel
theorem dX1_pinned_8 : decode cX1_pinned 8 = .ok (.iconst (-1), 1) := by decide +kernel
theorem dX1_pinned_9 : decode cX1_pinned 9 = .ok (.ireturn, 1) := by decide +kernel
theorem dX1_pinned_10 : decode cX1_pinned 10 = .ok (.aload_n 0, 1) := by decide +kernel
theorem dX1_pinned_11 : decode cX1_pinned 11 = .ok (.getfield 26, 3) := by decide +kernel
theorem dX1_pinned_14 : decode cX1_pinned 14 = .ok (.iload_n 1, 1) := by decide +kernel
theorem dX1_pinned_15 : decode cX1_pinned 15 = .ok (.baload, 1) := by decide +kernel
theorem dX1_pinned_16 : decode cX1_pinned 16 = .ok (.ifCond .eq 7, 3) := by decide +kernel
theorem dX1_pinned_19 : decode cX1_pinned 19 = .ok (.iconst 1, 1) := by decide +kernel
theorem dX1_pinned_20 : decode cX1_pinned 20 = .ok (.goto 4, 3) := by decide +kernel
theorem dX1_pinned_23 : decode cX1_pinned 23 = .ok (.iconst 0, 1) := by decide +kernel
theorem dX1_pinned_24 : decode cX1_pinned 24 = .ok (.ireturn, 1) := by decide +kernel
abbrev cX1_there : ByteArray := prog_3_method_23_code
def yX1_there : MethodName := ⟨RX1, "there", "(II)I"⟩
theorem dX1_there_0 : decode cX1_there 0 = .ok (.aload_n 0, 1) := by decide +kernel
theorem dX1_there_1 : decode cX1_there 1 = .ok (.iload_n 1, 1) := by decide +kernel
theorem dX1_there_2 : decode cX1_there 2 = .ok (.invokevirtual 43, 3) := by decide +kernel
theorem dX1_there_5 : decode cX1_there 5 = .ok (.ifCond .eq 5, 3) := by decide +kernel
theorem dX1_there_8 : decode cX1_there 8 = .ok (.iconst (-1), 1) := by decide +kernel
theorem dX1_there_9 : decode cX1_there 9 = .ok (.ireturn, 1) := by decide +kernel
theorem dX1_there_10 : decode cX1_there 10 = .ok (.aload_n 0, 1) := by decide +kernel
theorem dX1_there_11 : decode cX1_there 11 = .ok (.iload_n 2, 1) := by decide +kernel
theorem dX1_there_12 : decode cX1_there 12 = .ok (.invokevirtual 36, 3) := by decide +kernel
theorem dX1_there_15 : decode cX1_there 15 = .ok (.ifCond .eq 6, 3) := by decide +kernel
theorem dX1_there_18 : decode cX1_there 18 = .ok (.bipush (-2), 2) := by decide +kernel
theorem dX1_there_20 : decode cX1_there 20 = .ok (.ireturn, 1) := by decide +kernel
theorem dX1_there_21 : decode cX1_there 21 = .ok (.aload_n 0, 1) := by decide +kernel
theorem dX1_there_22 : decode cX1_there 22 = .ok (.getfield 17, 3) := by decide +kernel
theorem dX1_there_25 : decode cX1_there 25 = .ok (.bipush 16, 2) := by decide +kernel
theorem dX1_there_27 : decode cX1_there 27 = .ok (.iload_n 1, 1) := by decide +kernel
theorem dX1_there_28 : decode cX1_there 28 = .ok (.imul, 1) := by decide +kernel
theorem dX1_there_29 : decode cX1_there 29 = .ok (.iload_n 2, 1) := by decide +kernel
theorem dX1_there_30 : decode cX1_there 30 = .ok (.iadd, 1) := by decide +kernel
theorem dX1_there_31 : decode cX1_there 31 = .ok (.baload, 1) := by decide +kernel
theorem dX1_there_32 : decode cX1_there 32 = .ok (.ifCond .eq 7, 3) := by decide +kernel
theorem dX1_there_35 : decode cX1_there 35 = .ok (.iconst 1, 1) := by decide +kernel
theorem dX1_there_36 : decode cX1_there 36 = .ok (.goto 4, 3) := by decide +kernel
theorem dX1_there_39 : decode cX1_there 39 = .ok (.iconst 0, 1) := by decide +kernel
theorem dX1_there_40 : decode cX1_there 40 = .ok (.ireturn, 1) := by decide +kernel
abbrev cX1_content : ByteArray := prog_3_method_24_code
def yX1_content : MethodName := ⟨RX1, "content", "(II)I"⟩
theorem dX1_content_0 : decode cX1_content 0 = .ok (.aload_n 0, 1) := by decide +kernel
theorem dX1_content_1 : decode cX1_content 1 = .ok (.iload_n 1, 1) := by decide +kernel
theorem dX1_content_2 : decode cX1_content 2 = .ok (.invokevirtual 43, 3) := by decide +kernel
theorem dX1_content_5 : decode cX1_content 5 = .ok (.ifCond .ne 11, 3) := by decide +kernel
theorem dX1_content_8 : decode cX1_content 8 = .ok (.aload_n 0, 1) := by decide +kernel
theorem dX1_content_9 : decode cX1_content 9 = .ok (.iload_n 2, 1) := by decide +kernel
theorem dX1_content_10 : decode cX1_content 10 = .ok (.invokevirtual 36, 3) := by decide +kernel
theorem dX1_content_13 : decode cX1_content 13 = .ok (.ifCond .eq 5, 3) := by decide +kernel
theorem dX1_content_16 : decode cX1_content 16 = .ok (.iconst 0, 1) := by decide +kernel
theorem dX1_content_17 : decode cX1_content 17 = .ok (.ireturn, 1) := by decide +kernel
theorem dX1_content_18 : decode cX1_content 18 = .ok (.aload_n 0, 1) := by decide +kernel
theorem dX1_content_19 : decode cX1_content 19 = .ok (.getfield 17, 3) := by decide +kernel
theorem dX1_content_22 : decode cX1_content 22 = .ok (.bipush 16, 2) := by decide +kernel
theorem dX1_content_24 : decode cX1_content 24 = .ok (.iload_n 1, 1) := by decide +kernel
theorem dX1_content_25 : decode cX1_content 25 = .ok (.imul, 1) := by decide +kernel
theorem dX1_content_26 : decode cX1_content 26 = .ok (.iload_n 2, 1) := by decide +kernel
theorem dX1_content_27 : decode cX1_content 27 = .ok (.iadd, 1) := by decide +kernel
theorem dX1_content_28 : decode cX1_content 28 = .ok (.baload, 1) := by decide +kernel
theorem dX1_content_29 : decode cX1_content 29 = .ok (.ifCond .eq 17, 3) := by decide +kernel
theorem dX1_content_32 : decode cX1_content 32 = .ok (.aload_n 0, 1) := by decide +kernel
theorem dX1_content_33 : decode cX1_content 33 = .ok (.getfield 20, 3) := by decide +kernel
theorem dX1_content_36 : decode cX1_content 36 = .ok (.bipush 16, 2) := by decide +kernel
theorem dX1_content_38 : decode cX1_content 38 = .ok (.iload_n 1, 1) := by decide +kernel
theorem dX1_content_39 : decode cX1_content 39 = .ok (.imul, 1) := by decide +kernel
theorem dX1_content_40 : decode cX1_content 40 = .ok (.iload_n 2, 1) := by decide +kernel
theorem dX1_content_41 : decode cX1_content 41 = .ok (.iadd, 1) := by decide +kernel
theorem dX1_content_42 : decode cX1_content 42 = .ok (.iaload, 1) := by decide +kernel
theorem dX1_content_43 : decode cX1_content 43 = .ok (.goto 4, 3) := by decide +kernel
theorem dX1_content_46 : decode cX1_content 46 = .ok (.iconst 0, 1) := by decide +kernel
theorem dX1_content_47 : decode cX1_content 47 = .ok (.ireturn, 1) := by decide +kernel
abbrev cX1_liveThere : ByteArray := prog_3_method_25_code
def yX1_liveThere : MethodName := ⟨RX1, "liveThere", "(I)I"⟩
theorem dX1_liveThere_0 : decode cX1_liveThere 0 = .ok (.aload_n 0, 1) := by decide +kernel
theorem dX1_liveThere_1 : decode cX1_liveThere 1 = .ok (.iload_n 1, 1) := by decide +kernel
theorem dX1_liveThere_2 : decode cX1_liveThere 2 = .ok (.invokevirtual 36, 3) := by decide +kernel
theorem dX1_liveThere_5 : decode cX1_liveThere 5 = .ok (.ifCond .eq 5, 3) := by decide +kernel
theorem dX1_liveThere_8 : decode cX1_liveThere 8 = .ok (.iconst (-1), 1) := by decide +kernel
theorem dX1_liveThere_9 : decode cX1_liveThere 9 = .ok (.ireturn, 1) := by decide +kernel
theorem dX1_liveThere_10 : decode cX1_liveThere 10 = .ok (.aload_n 0, 1) := by decide +kernel
theorem dX1_liveThere_11 : decode cX1_liveThere 11 = .ok (.getfield 7, 3) := by decide +kernel
theorem dX1_liveThere_14 : decode cX1_liveThere 14 = .ok (.iload_n 1, 1) := by decide +kernel
theorem dX1_liveThere_15 : decode cX1_liveThere 15 = .ok (.baload, 1) := by decide +kernel
theorem dX1_liveThere_16 : decode cX1_liveThere 16 = .ok (.ifCond .eq 7, 3) := by decide +kernel
theorem dX1_liveThere_19 : decode cX1_liveThere 19 = .ok (.iconst 1, 1) := by decide +kernel
theorem dX1_liveThere_20 : decode cX1_liveThere 20 = .ok (.goto 4, 3) := by decide +kernel
theorem dX1_liveThere_23 : decode cX1_liveThere 23 = .ok (.iconst 0, 1) := by decide +kernel
theorem dX1_liveThere_24 : decode cX1_liveThere 24 = .ok (.ireturn, 1) := by decide +kernel
abbrev cX1_live : ByteArray := prog_3_method_26_code
def yX1_live : MethodName := ⟨RX1, "live", "(I)I"⟩
theorem dX1_live_0 : decode cX1_live 0 = .ok (.aload_n 0, 1) := by decide +kernel
theorem dX1_live_1 : decode cX1_live 1 = .ok (.iload_n 1, 1) := by decide +kernel
theorem dX1_live_2 : decode cX1_live 2 = .ok (.invokevirtual 36, 3) := by decide +kernel
theorem dX1_live_5 : decode cX1_live 5 = .ok (.ifCond .eq 5, 3) := by decide +kernel
theorem dX1_live_8 : decode cX1_live 8 = .ok (.iconst 0, 1) := by decide +kernel
theorem dX1_live_9 : decode cX1_live 9 = .ok (.ireturn, 1) := by decide +kernel
theorem dX1_live_10 : decode cX1_live 10 = .ok (.aload_n 0, 1) := by decide +kernel
theorem dX1_live_11 : decode cX1_live 11 = .ok (.getfield 7, 3) := by decide +kernel
theorem dX1_live_14 : decode cX1_live 14 = .ok (.iload_n 1, 1) := by decide +kernel
theorem dX1_live_15 : decode cX1_live 15 = .ok (.baload, 1) := by decide +kernel
theorem dX1_live_16 : decode cX1_live 16 = .ok (.ifCond .eq 12, 3) := by decide +kernel
theorem dX1_live_19 : decode cX1_live 19 = .ok (.aload_n 0, 1) := by decide +kernel
theorem dX1_live_20 : decode cX1_live 20 = .ok (.getfield 13, 3) := by decide +kernel
theorem dX1_live_23 : decode cX1_live 23 = .ok (.iload_n 1, 1) := by decide +kernel
theorem dX1_live_24 : decode cX1_live 24 = .ok (.iaload, 1) := by decide +kernel
theorem dX1_live_25 : decode cX1_live 25 = .ok (.goto 4, 3) := by decide +kernel
theorem dX1_live_28 : decode cX1_live 28 = .ok (.iconst 0, 1) := by decide +kernel
theorem dX1_live_29 : decode cX1_live 29 = .ok (.ireturn, 1) := by decide +kernel
abbrev cX1_differing : ByteArray := prog_3_method_28_code
def yX1_differing : MethodName := ⟨RX1, "differing", "(II)I"⟩
theorem dX1_differing_0 : decode cX1_differing 0 = .ok (.aload_n 0, 1) := by decide +kernel
theorem dX1_differing_1 : decode cX1_differing 1 = .ok (.iload_n 1, 1) := by decide +kernel
theorem dX1_differing_2 : decode cX1_differing 2 = .ok (.invokevirtual 43, 3) := by decide +kernel
theorem dX1_differing_5 : decode cX1_differing 5 = .ok (.ifCond .ne 11, 3) := by decide +kernel
theorem dX1_differing_8 : decode cX1_differing 8 = .ok (.aload_n 0, 1) := by decide +kernel
theorem dX1_differing_9 : decode cX1_differing 9 = .ok (.iload_n 2, 1) := by decide +kernel
theorem dX1_differing_10 : decode cX1_differing 10 = .ok (.invokevirtual 43, 3) := by decide +kernel
theorem dX1_differing_13 : decode cX1_differing 13 = .ok (.ifCond .eq 5, 3) := by decide +kernel
theorem dX1_differing_16 : decode cX1_differing 16 = .ok (.iconst (-1), 1) := by decide +kernel
theorem dX1_differing_17 : decode cX1_differing 17 = .ok (.ireturn, 1) := by decide +kernel
theorem dX1_differing_18 : decode cX1_differing 18 = .ok (.iconst 0, 1) := by decide +kernel
theorem dX1_differing_19 : decode cX1_differing 19 = .ok (.istore_n 3, 1) := by decide +kernel
theorem dX1_differing_20 : decode cX1_differing 20 = .ok (.iconst 0, 1) := by decide +kernel
theorem dX1_differing_21 : decode cX1_differing 21 = .ok (.istore 4, 2) := by decide +kernel
theorem dX1_differing_23 : decode cX1_differing 23 = .ok (.iload 4, 2) := by decide +kernel
theorem dX1_differing_25 : decode cX1_differing 25 = .ok (.bipush 16, 2) := by decide +kernel
theorem dX1_differing_27 : decode cX1_differing 27 = .ok (.if_icmp .ge 23, 3) := by decide +kernel
theorem dX1_differing_30 : decode cX1_differing 30 = .ok (.aload_n 0, 1) := by decide +kernel
theorem dX1_differing_31 : decode cX1_differing 31 = .ok (.iload_n 1, 1) := by decide +kernel
theorem dX1_differing_32 : decode cX1_differing 32 = .ok (.iload_n 2, 1) := by decide +kernel
theorem dX1_differing_33 : decode cX1_differing 33 = .ok (.iload 4, 2) := by decide +kernel
theorem dX1_differing_35 : decode cX1_differing 35 = .ok (.invokevirtual 64, 3) := by decide +kernel
theorem dX1_differing_38 : decode cX1_differing 38 = .ok (.ifCond .eq 6, 3) := by decide +kernel
theorem dX1_differing_41 : decode cX1_differing 41 = .ok (.iinc 3 1, 3) := by decide +kernel
theorem dX1_differing_44 : decode cX1_differing 44 = .ok (.iinc 4 1, 3) := by decide +kernel
theorem dX1_differing_47 : decode cX1_differing 47 = .ok (.goto (-24), 3) := by decide +kernel
theorem dX1_differing_50 : decode cX1_differing 50 = .ok (.iload_n 3, 1) := by decide +kernel
theorem dX1_differing_51 : decode cX1_differing 51 = .ok (.ireturn, 1) := by decide +kernel
abbrev cX1_differ : ByteArray := prog_3_method_27_code
def yX1_differ : MethodName := ⟨RX1, "differ", "(III)Z"⟩
theorem dX1_differ_0 : decode cX1_differ 0 = .ok (.aload_n 0, 1) := by decide +kernel
theorem dX1_differ_1 : decode cX1_differ 1 = .ok (.getfield 17, 3) := by decide +kernel
theorem dX1_differ_4 : decode cX1_differ 4 = .ok (.bipush 16, 2) := by decide +kernel
theorem dX1_differ_6 : decode cX1_differ 6 = .ok (.iload_n 1, 1) := by decide +kernel
theorem dX1_differ_7 : decode cX1_differ 7 = .ok (.imul, 1) := by decide +kernel
theorem dX1_differ_8 : decode cX1_differ 8 = .ok (.iload_n 3, 1) := by decide +kernel
theorem dX1_differ_9 : decode cX1_differ 9 = .ok (.iadd, 1) := by decide +kernel
theorem dX1_differ_10 : decode cX1_differ 10 = .ok (.baload, 1) := by decide +kernel
theorem dX1_differ_11 : decode cX1_differ 11 = .ok (.aload_n 0, 1) := by decide +kernel
theorem dX1_differ_12 : decode cX1_differ 12 = .ok (.getfield 17, 3) := by decide +kernel
theorem dX1_differ_15 : decode cX1_differ 15 = .ok (.bipush 16, 2) := by decide +kernel
theorem dX1_differ_17 : decode cX1_differ 17 = .ok (.iload_n 2, 1) := by decide +kernel
theorem dX1_differ_18 : decode cX1_differ 18 = .ok (.imul, 1) := by decide +kernel
theorem dX1_differ_19 : decode cX1_differ 19 = .ok (.iload_n 3, 1) := by decide +kernel
theorem dX1_differ_20 : decode cX1_differ 20 = .ok (.iadd, 1) := by decide +kernel
theorem dX1_differ_21 : decode cX1_differ 21 = .ok (.baload, 1) := by decide +kernel
theorem dX1_differ_22 : decode cX1_differ 22 = .ok (.if_icmp .ne 28, 3) := by decide +kernel
theorem dX1_differ_25 : decode cX1_differ 25 = .ok (.aload_n 0, 1) := by decide +kernel
theorem dX1_differ_26 : decode cX1_differ 26 = .ok (.getfield 20, 3) := by decide +kernel
theorem dX1_differ_29 : decode cX1_differ 29 = .ok (.bipush 16, 2) := by decide +kernel
theorem dX1_differ_31 : decode cX1_differ 31 = .ok (.iload_n 1, 1) := by decide +kernel
theorem dX1_differ_32 : decode cX1_differ 32 = .ok (.imul, 1) := by decide +kernel
theorem dX1_differ_33 : decode cX1_differ 33 = .ok (.iload_n 3, 1) := by decide +kernel
theorem dX1_differ_34 : decode cX1_differ 34 = .ok (.iadd, 1) := by decide +kernel
theorem dX1_differ_35 : decode cX1_differ 35 = .ok (.iaload, 1) := by decide +kernel
theorem dX1_differ_36 : decode cX1_differ 36 = .ok (.aload_n 0, 1) := by decide +kernel
theorem dX1_differ_37 : decode cX1_differ 37 = .ok (.getfield 20, 3) := by decide +kernel
theorem dX1_differ_40 : decode cX1_differ 40 = .ok (.bipush 16, 2) := by decide +kernel
theorem dX1_differ_42 : decode cX1_differ 42 = .ok (.iload_n 2, 1) := by decide +kernel
theorem dX1_differ_43 : decode cX1_differ 43 = .ok (.imul, 1) := by decide +kernel
theorem dX1_differ_44 : decode cX1_differ 44 = .ok (.iload_n 3, 1) := by decide +kernel
theorem dX1_differ_45 : decode cX1_differ 45 = .ok (.iadd, 1) := by decide +kernel
theorem dX1_differ_46 : decode cX1_differ 46 = .ok (.iaload, 1) := by decide +kernel
theorem dX1_differ_47 : decode cX1_differ 47 = .ok (.if_icmp .eq 7, 3) := by decide +kernel
theorem dX1_differ_50 : decode cX1_differ 50 = .ok (.iconst 1, 1) := by decide +kernel
theorem dX1_differ_51 : decode cX1_differ 51 = .ok (.goto 4, 3) := by decide +kernel
theorem dX1_differ_54 : decode cX1_differ 54 = .ok (.iconst 0, 1) := by decide +kernel
theorem dX1_differ_55 : decode cX1_differ 55 = .ok (.ireturn, 1) := by decide +kernel
abbrev cX1_changedSince : ByteArray := prog_3_method_29_code
def yX1_changedSince : MethodName := ⟨RX1, "changedSince", "(I)I"⟩
theorem dX1_changedSince_0 : decode cX1_changedSince 0 = .ok (.aload_n 0, 1) := by decide +kernel
theorem dX1_changedSince_1 : decode cX1_changedSince 1 = .ok (.iload_n 1, 1) := by decide +kernel
theorem dX1_changedSince_2 : decode cX1_changedSince 2 = .ok (.invokevirtual 43, 3) := by decide +kernel
theorem dX1_changedSince_5 : decode cX1_changedSince 5 = .ok (.ifCond .eq 5, 3) := by decide +kernel
theorem dX1_changedSince_8 : decode cX1_changedSince 8 = .ok (.iconst (-1), 1) := by decide +kernel
theorem dX1_changedSince_9 : decode cX1_changedSince 9 = .ok (.ireturn, 1) := by decide +kernel
theorem dX1_changedSince_10 : decode cX1_changedSince 10 = .ok (.iconst 0, 1) := by decide +kernel
theorem dX1_changedSince_11 : decode cX1_changedSince 11 = .ok (.istore_n 2, 1) := by decide +kernel
theorem dX1_changedSince_12 : decode cX1_changedSince 12 = .ok (.iconst 0, 1) := by decide +kernel
theorem dX1_changedSince_13 : decode cX1_changedSince 13 = .ok (.istore_n 3, 1) := by decide +kernel
theorem dX1_changedSince_14 : decode cX1_changedSince 14 = .ok (.iload_n 3, 1) := by decide +kernel
theorem dX1_changedSince_15 : decode cX1_changedSince 15 = .ok (.bipush 16, 2) := by decide +kernel
theorem dX1_changedSince_17 : decode cX1_changedSince 17 = .ok (.if_icmp .ge 21, 3) := by decide +kernel
theorem dX1_changedSince_20 : decode cX1_changedSince 20 = .ok (.aload_n 0, 1) := by decide +kernel
theorem dX1_changedSince_21 : decode cX1_changedSince 21 = .ok (.iload_n 1, 1) := by decide +kernel
theorem dX1_changedSince_22 : decode cX1_changedSince 22 = .ok (.iload_n 3, 1) := by decide +kernel
theorem dX1_changedSince_23 : decode cX1_changedSince 23 = .ok (.invokevirtual 46, 3) := by decide +kernel
theorem dX1_changedSince_26 : decode cX1_changedSince 26 = .ok (.ifCond .eq 6, 3) := by decide +kernel
theorem dX1_changedSince_29 : decode cX1_changedSince 29 = .ok (.iinc 2 1, 3) := by decide +kernel
theorem dX1_changedSince_32 : decode cX1_changedSince 32 = .ok (.iinc 3 1, 3) := by decide +kernel
theorem dX1_changedSince_35 : decode cX1_changedSince 35 = .ok (.goto (-21), 3) := by decide +kernel
theorem dX1_changedSince_38 : decode cX1_changedSince 38 = .ok (.iload_n 2, 1) := by decide +kernel
theorem dX1_changedSince_39 : decode cX1_changedSince 39 = .ok (.ireturn, 1) := by decide +kernel
abbrev cX1_versions : ByteArray := prog_3_method_30_code
def yX1_versions : MethodName := ⟨RX1, "versions", "(I)I"⟩
theorem dX1_versions_0 : decode cX1_versions 0 = .ok (.aload_n 0, 1) := by decide +kernel
theorem dX1_versions_1 : decode cX1_versions 1 = .ok (.iload_n 1, 1) := by decide +kernel
theorem dX1_versions_2 : decode cX1_versions 2 = .ok (.invokevirtual 36, 3) := by decide +kernel
theorem dX1_versions_5 : decode cX1_versions 5 = .ok (.ifCond .eq 5, 3) := by decide +kernel
theorem dX1_versions_8 : decode cX1_versions 8 = .ok (.iconst (-1), 1) := by decide +kernel
theorem dX1_versions_9 : decode cX1_versions 9 = .ok (.ireturn, 1) := by decide +kernel
theorem dX1_versions_10 : decode cX1_versions 10 = .ok (.iconst 0, 1) := by decide +kernel
theorem dX1_versions_11 : decode cX1_versions 11 = .ok (.istore_n 2, 1) := by decide +kernel
theorem dX1_versions_12 : decode cX1_versions 12 = .ok (.iconst 1, 1) := by decide +kernel
theorem dX1_versions_13 : decode cX1_versions 13 = .ok (.istore_n 3, 1) := by decide +kernel
theorem dX1_versions_14 : decode cX1_versions 14 = .ok (.iload_n 3, 1) := by decide +kernel
theorem dX1_versions_15 : decode cX1_versions 15 = .ok (.aload_n 0, 1) := by decide +kernel
theorem dX1_versions_16 : decode cX1_versions 16 = .ok (.getfield 32, 3) := by decide +kernel
theorem dX1_versions_19 : decode cX1_versions 19 = .ok (.if_icmp .ge 30, 3) := by decide +kernel
theorem dX1_versions_22 : decode cX1_versions 22 = .ok (.iload_n 3, 1) := by decide +kernel
theorem dX1_versions_23 : decode cX1_versions 23 = .ok (.bipush 14, 2) := by decide +kernel
theorem dX1_versions_25 : decode cX1_versions 25 = .ok (.if_icmp .ge 24, 3) := by decide +kernel
theorem dX1_versions_28 : decode cX1_versions 28 = .ok (.aload_n 0, 1) := by decide +kernel
theorem dX1_versions_29 : decode cX1_versions 29 = .ok (.iload_n 3, 1) := by decide +kernel
theorem dX1_versions_30 : decode cX1_versions 30 = .ok (.iload_n 3, 1) := by decide +kernel
theorem dX1_versions_31 : decode cX1_versions 31 = .ok (.iconst 1, 1) := by decide +kernel
theorem dX1_versions_32 : decode cX1_versions 32 = .ok (.isub, 1) := by decide +kernel
theorem dX1_versions_33 : decode cX1_versions 33 = .ok (.iload_n 1, 1) := by decide +kernel
theorem dX1_versions_34 : decode cX1_versions 34 = .ok (.invokevirtual 64, 3) := by decide +kernel
theorem dX1_versions_37 : decode cX1_versions 37 = .ok (.ifCond .eq 6, 3) := by decide +kernel
theorem dX1_versions_40 : decode cX1_versions 40 = .ok (.iinc 2 1, 3) := by decide +kernel
theorem dX1_versions_43 : decode cX1_versions 43 = .ok (.iinc 3 1, 3) := by decide +kernel
theorem dX1_versions_46 : decode cX1_versions 46 = .ok (.goto (-32), 3) := by decide +kernel
theorem dX1_versions_49 : decode cX1_versions 49 = .ok (.iload_n 2, 1) := by decide +kernel
theorem dX1_versions_50 : decode cX1_versions 50 = .ok (.ireturn, 1) := by decide +kernel
abbrev cX1_sum : ByteArray := prog_3_method_31_code
def yX1_sum : MethodName := ⟨RX1, "sum", "(I)I"⟩
theorem dX1_sum_0 : decode cX1_sum 0 = .ok (.aload_n 0, 1) := by decide +kernel
theorem dX1_sum_1 : decode cX1_sum 1 = .ok (.iload_n 1, 1) := by decide +kernel
theorem dX1_sum_2 : decode cX1_sum 2 = .ok (.invokevirtual 43, 3) := by decide +kernel
theorem dX1_sum_5 : decode cX1_sum 5 = .ok (.ifCond .eq 5, 3) := by decide +kernel
theorem dX1_sum_8 : decode cX1_sum 8 = .ok (.iconst 0, 1) := by decide +kernel
theorem dX1_sum_9 : decode cX1_sum 9 = .ok (.ireturn, 1) := by decide +kernel
theorem dX1_sum_10 : decode cX1_sum 10 = .ok (.iconst 0, 1) := by decide +kernel
theorem dX1_sum_11 : decode cX1_sum 11 = .ok (.istore_n 2, 1) := by decide +kernel
theorem dX1_sum_12 : decode cX1_sum 12 = .ok (.iconst 0, 1) := by decide +kernel
theorem dX1_sum_13 : decode cX1_sum 13 = .ok (.istore_n 3, 1) := by decide +kernel
theorem dX1_sum_14 : decode cX1_sum 14 = .ok (.iload_n 3, 1) := by decide +kernel
theorem dX1_sum_15 : decode cX1_sum 15 = .ok (.bipush 16, 2) := by decide +kernel
theorem dX1_sum_17 : decode cX1_sum 17 = .ok (.if_icmp .ge 37, 3) := by decide +kernel
theorem dX1_sum_20 : decode cX1_sum 20 = .ok (.aload_n 0, 1) := by decide +kernel
theorem dX1_sum_21 : decode cX1_sum 21 = .ok (.getfield 17, 3) := by decide +kernel
theorem dX1_sum_24 : decode cX1_sum 24 = .ok (.bipush 16, 2) := by decide +kernel
theorem dX1_sum_26 : decode cX1_sum 26 = .ok (.iload_n 1, 1) := by decide +kernel
theorem dX1_sum_27 : decode cX1_sum 27 = .ok (.imul, 1) := by decide +kernel
theorem dX1_sum_28 : decode cX1_sum 28 = .ok (.iload_n 3, 1) := by decide +kernel
theorem dX1_sum_29 : decode cX1_sum 29 = .ok (.iadd, 1) := by decide +kernel
theorem dX1_sum_30 : decode cX1_sum 30 = .ok (.baload, 1) := by decide +kernel
theorem dX1_sum_31 : decode cX1_sum 31 = .ok (.ifCond .eq 17, 3) := by decide +kernel
theorem dX1_sum_34 : decode cX1_sum 34 = .ok (.iload_n 2, 1) := by decide +kernel
theorem dX1_sum_35 : decode cX1_sum 35 = .ok (.aload_n 0, 1) := by decide +kernel
theorem dX1_sum_36 : decode cX1_sum 36 = .ok (.getfield 20, 3) := by decide +kernel
theorem dX1_sum_39 : decode cX1_sum 39 = .ok (.bipush 16, 2) := by decide +kernel
theorem dX1_sum_41 : decode cX1_sum 41 = .ok (.iload_n 1, 1) := by decide +kernel
theorem dX1_sum_42 : decode cX1_sum 42 = .ok (.imul, 1) := by decide +kernel
theorem dX1_sum_43 : decode cX1_sum 43 = .ok (.iload_n 3, 1) := by decide +kernel
theorem dX1_sum_44 : decode cX1_sum 44 = .ok (.iadd, 1) := by decide +kernel
theorem dX1_sum_45 : decode cX1_sum 45 = .ok (.iaload, 1) := by decide +kernel
theorem dX1_sum_46 : decode cX1_sum 46 = .ok (.iadd, 1) := by decide +kernel
theorem dX1_sum_47 : decode cX1_sum 47 = .ok (.istore_n 2, 1) := by decide +kernel
theorem dX1_sum_48 : decode cX1_sum 48 = .ok (.iinc 3 1, 3) := by decide +kernel
theorem dX1_sum_51 : decode cX1_sum 51 = .ok (.goto (-37), 3) := by decide +kernel
theorem dX1_sum_54 : decode cX1_sum 54 = .ok (.iload_n 2, 1) := by decide +kernel
theorem dX1_sum_55 : decode cX1_sum 55 = .ok (.ireturn, 1) := by decide +kernel
end
section
set_option maxRecDepth 100000
theorem q20 : (Jvm.Cond.initialized "SyntheticChainModel") ∈ lw_all := lw_g (lw_at lw_m1 2 rfl) rfl
theorem q210 : (Jvm.Cond.instantiable "SyntheticChainModel" (9 : Nat)) ∈ lw_all := lw_g (lw_at lw_m1 192 rfl) rfl
theorem q212 : (Jvm.Cond.instanceMethod ({ cls := "SyntheticChainModel", name := "<init>", desc := "()V" } : Jvm.MethodName)) ∈ lw_all := lw_g (lw_at lw_m1 194 rfl) rfl
theorem q213 : (Jvm.Cond.code ({ cls := "SyntheticChainModel", name := "<init>", desc := "()V" } : Jvm.MethodName) prog_3_method_1_code (1 : Nat) (Option.none : Option Jvm.ClassFile.FieldType)) ∈ lw_all := lw_g (lw_at lw_m1 195 rfl) rfl
theorem q214 : (Jvm.Cond.methodLink "SyntheticChainModel" (1 : Nat) ({ cls := "java/lang/Object", name := "<init>", desc := "()V" } : Jvm.MethodName)) ∈ lw_all := lw_g (lw_at lw_m1 196 rfl) rfl
theorem q215 : (Jvm.Cond.fieldLink "SyntheticChainModel" (40 : Nat) "SyntheticChainModel" "today" "I") ∈ lw_all := lw_g (lw_at lw_m1 197 rfl) rfl
theorem q216 : (Jvm.Cond.fieldLink "SyntheticChainModel" (7 : Nat) "SyntheticChainModel" "liveThere" "[Z") ∈ lw_all := lw_g (lw_at lw_m1 198 rfl) rfl
theorem q217 : (Jvm.Cond.fieldLink "SyntheticChainModel" (13 : Nat) "SyntheticChainModel" "live" "[I") ∈ lw_all := lw_g (lw_at lw_m1 199 rfl) rfl
theorem q218 : (Jvm.Cond.fieldLink "SyntheticChainModel" (32 : Nat) "SyntheticChainModel" "points" "I") ∈ lw_all := lw_g (lw_at lw_m1 200 rfl) rfl
theorem q219 : (Jvm.Cond.fieldLink "SyntheticChainModel" (17 : Nat) "SyntheticChainModel" "held" "[Z") ∈ lw_all := lw_g (lw_at lw_m1 201 rfl) rfl
theorem q220 : (Jvm.Cond.fieldLink "SyntheticChainModel" (20 : Nat) "SyntheticChainModel" "content" "[I") ∈ lw_all := lw_g (lw_at lw_m1 202 rfl) rfl
theorem q221 : (Jvm.Cond.fieldLink "SyntheticChainModel" (23 : Nat) "SyntheticChainModel" "day" "[I") ∈ lw_all := lw_g (lw_at lw_m1 203 rfl) rfl
theorem q222 : (Jvm.Cond.fieldLink "SyntheticChainModel" (26 : Nat) "SyntheticChainModel" "pinned" "[Z") ∈ lw_all := lw_g (lw_at lw_m1 204 rfl) rfl
theorem q223 : (Jvm.Cond.fieldLink "SyntheticChainModel" (29 : Nat) "SyntheticChainModel" "kept" "[Z") ∈ lw_all := lw_g (lw_at lw_m1 205 rfl) rfl
theorem q224 : (Jvm.Cond.lays "SyntheticChainModel" "SyntheticChainModel" "today" "I") ∈ lw_all := lw_g (lw_at lw_m1 206 rfl) rfl
theorem q225 : (Jvm.Cond.soleField "SyntheticChainModel" "today") ∈ lw_all := lw_g (lw_at lw_m1 207 rfl) rfl
theorem q226 : (Jvm.Cond.lays "SyntheticChainModel" "SyntheticChainModel" "liveThere" "[Z") ∈ lw_all := lw_g (lw_at lw_m1 208 rfl) rfl
theorem q227 : (Jvm.Cond.soleField "SyntheticChainModel" "liveThere") ∈ lw_all := lw_g (lw_at lw_m1 209 rfl) rfl
theorem q228 : (Jvm.Cond.lays "SyntheticChainModel" "SyntheticChainModel" "live" "[I") ∈ lw_all := lw_g (lw_at lw_m1 210 rfl) rfl
theorem q229 : (Jvm.Cond.soleField "SyntheticChainModel" "live") ∈ lw_all := lw_g (lw_at lw_m1 211 rfl) rfl
theorem q230 : (Jvm.Cond.lays "SyntheticChainModel" "SyntheticChainModel" "points" "I") ∈ lw_all := lw_g (lw_at lw_m1 212 rfl) rfl
theorem q231 : (Jvm.Cond.soleField "SyntheticChainModel" "points") ∈ lw_all := lw_g (lw_at lw_m1 213 rfl) rfl
theorem q232 : (Jvm.Cond.lays "SyntheticChainModel" "SyntheticChainModel" "held" "[Z") ∈ lw_all := lw_g (lw_at lw_m1 214 rfl) rfl
theorem q233 : (Jvm.Cond.soleField "SyntheticChainModel" "held") ∈ lw_all := lw_g (lw_at lw_m1 215 rfl) rfl
theorem q234 : (Jvm.Cond.lays "SyntheticChainModel" "SyntheticChainModel" "content" "[I") ∈ lw_all := lw_g (lw_at lw_m1 216 rfl) rfl
theorem q235 : (Jvm.Cond.soleField "SyntheticChainModel" "content") ∈ lw_all := lw_g (lw_at lw_m1 217 rfl) rfl
theorem q236 : (Jvm.Cond.lays "SyntheticChainModel" "SyntheticChainModel" "day" "[I") ∈ lw_all := lw_g (lw_at lw_m1 218 rfl) rfl
theorem q237 : (Jvm.Cond.soleField "SyntheticChainModel" "day") ∈ lw_all := lw_g (lw_at lw_m1 219 rfl) rfl
theorem q238 : (Jvm.Cond.lays "SyntheticChainModel" "SyntheticChainModel" "pinned" "[Z") ∈ lw_all := lw_g (lw_at lw_m1 220 rfl) rfl
theorem q239 : (Jvm.Cond.soleField "SyntheticChainModel" "pinned") ∈ lw_all := lw_g (lw_at lw_m1 221 rfl) rfl
theorem q240 : (Jvm.Cond.lays "SyntheticChainModel" "SyntheticChainModel" "kept" "[Z") ∈ lw_all := lw_g (lw_at lw_m1 222 rfl) rfl
theorem q241 : (Jvm.Cond.soleField "SyntheticChainModel" "kept") ∈ lw_all := lw_g (lw_at lw_m1 223 rfl) rfl
theorem q242 : (Jvm.Cond.superclass "SyntheticChainModel" "java/lang/Object") ∈ lw_all := lw_g (lw_at lw_m1 224 rfl) rfl
theorem q244 : (Jvm.Cond.instanceMethod ({ cls := "SyntheticChainModel", name := "put", desc := "(II)I" } : Jvm.MethodName)) ∈ lw_all := lw_g (lw_at lw_m1 226 rfl) rfl
theorem q245 : (Jvm.Cond.selects "SyntheticChainModel" ({ cls := "SyntheticChainModel", name := "put", desc := "(II)I" } : Jvm.MethodName) ({ cls := "SyntheticChainModel", name := "put", desc := "(II)I" } : Jvm.MethodName)) ∈ lw_all := lw_g (lw_at lw_m1 227 rfl) rfl
theorem q246 : (Jvm.Cond.code ({ cls := "SyntheticChainModel", name := "put", desc := "(II)I" } : Jvm.MethodName) prog_3_method_4_code (4 : Nat) (Option.some Jvm.ClassFile.FieldType.int)) ∈ lw_all := lw_g (lw_at lw_m1 228 rfl) rfl
theorem q247 : (Jvm.Cond.methodLink "SyntheticChainModel" (36 : Nat) ({ cls := "SyntheticChainModel", name := "badFile", desc := "(I)Z" } : Jvm.MethodName)) ∈ lw_all := lw_g (lw_at lw_m1 229 rfl) rfl
theorem q248 : (Jvm.Cond.privateMethod ({ cls := "SyntheticChainModel", name := "badFile", desc := "(I)Z" } : Jvm.MethodName)) ∈ lw_tbl := lw_at lw_m1 230 rfl
theorem q249 : (Jvm.Cond.instanceMethod ({ cls := "SyntheticChainModel", name := "badFile", desc := "(I)Z" } : Jvm.MethodName)) ∈ lw_all := lw_g (lw_at lw_m1 231 rfl) rfl
theorem q250 : (Jvm.Cond.code ({ cls := "SyntheticChainModel", name := "badFile", desc := "(I)Z" } : Jvm.MethodName) prog_3_method_2_code (2 : Nat) (Option.some Jvm.ClassFile.FieldType.boolean)) ∈ lw_all := lw_g (lw_at lw_m1 232 rfl) rfl
theorem q252 : (Jvm.Cond.instanceMethod ({ cls := "SyntheticChainModel", name := "delete", desc := "(I)I" } : Jvm.MethodName)) ∈ lw_all := lw_g (lw_at lw_m1 234 rfl) rfl
theorem q253 : (Jvm.Cond.selects "SyntheticChainModel" ({ cls := "SyntheticChainModel", name := "delete", desc := "(I)I" } : Jvm.MethodName) ({ cls := "SyntheticChainModel", name := "delete", desc := "(I)I" } : Jvm.MethodName)) ∈ lw_all := lw_g (lw_at lw_m1 235 rfl) rfl
theorem q254 : (Jvm.Cond.code ({ cls := "SyntheticChainModel", name := "delete", desc := "(I)I" } : Jvm.MethodName) prog_3_method_5_code (3 : Nat) (Option.some Jvm.ClassFile.FieldType.int)) ∈ lw_all := lw_g (lw_at lw_m1 236 rfl) rfl
theorem q256 : (Jvm.Cond.instanceMethod ({ cls := "SyntheticChainModel", name := "rename", desc := "(II)I" } : Jvm.MethodName)) ∈ lw_all := lw_g (lw_at lw_m1 238 rfl) rfl
theorem q257 : (Jvm.Cond.selects "SyntheticChainModel" ({ cls := "SyntheticChainModel", name := "rename", desc := "(II)I" } : Jvm.MethodName) ({ cls := "SyntheticChainModel", name := "rename", desc := "(II)I" } : Jvm.MethodName)) ∈ lw_all := lw_g (lw_at lw_m1 239 rfl) rfl
theorem q258 : (Jvm.Cond.code ({ cls := "SyntheticChainModel", name := "rename", desc := "(II)I" } : Jvm.MethodName) prog_3_method_6_code (3 : Nat) (Option.some Jvm.ClassFile.FieldType.int)) ∈ lw_all := lw_g (lw_at lw_m2 0 rfl) rfl
theorem q260 : (Jvm.Cond.instanceMethod ({ cls := "SyntheticChainModel", name := "rewrite", desc := "(III)I" } : Jvm.MethodName)) ∈ lw_all := lw_g (lw_at lw_m2 2 rfl) rfl
theorem q261 : (Jvm.Cond.selects "SyntheticChainModel" ({ cls := "SyntheticChainModel", name := "rewrite", desc := "(III)I" } : Jvm.MethodName) ({ cls := "SyntheticChainModel", name := "rewrite", desc := "(III)I" } : Jvm.MethodName)) ∈ lw_all := lw_g (lw_at lw_m2 3 rfl) rfl
theorem q262 : (Jvm.Cond.code ({ cls := "SyntheticChainModel", name := "rewrite", desc := "(III)I" } : Jvm.MethodName) prog_3_method_7_code (6 : Nat) (Option.some Jvm.ClassFile.FieldType.int)) ∈ lw_all := lw_g (lw_at lw_m2 4 rfl) rfl
theorem q264 : (Jvm.Cond.instanceMethod ({ cls := "SyntheticChainModel", name := "advance", desc := "(I)I" } : Jvm.MethodName)) ∈ lw_all := lw_g (lw_at lw_m2 6 rfl) rfl
theorem q265 : (Jvm.Cond.selects "SyntheticChainModel" ({ cls := "SyntheticChainModel", name := "advance", desc := "(I)I" } : Jvm.MethodName) ({ cls := "SyntheticChainModel", name := "advance", desc := "(I)I" } : Jvm.MethodName)) ∈ lw_all := lw_g (lw_at lw_m2 7 rfl) rfl
theorem q266 : (Jvm.Cond.code ({ cls := "SyntheticChainModel", name := "advance", desc := "(I)I" } : Jvm.MethodName) prog_3_method_8_code (2 : Nat) (Option.some Jvm.ClassFile.FieldType.int)) ∈ lw_all := lw_g (lw_at lw_m2 8 rfl) rfl
theorem q268 : (Jvm.Cond.instanceMethod ({ cls := "SyntheticChainModel", name := "take", desc := "(I)I" } : Jvm.MethodName)) ∈ lw_all := lw_g (lw_at lw_m2 10 rfl) rfl
theorem q269 : (Jvm.Cond.selects "SyntheticChainModel" ({ cls := "SyntheticChainModel", name := "take", desc := "(I)I" } : Jvm.MethodName) ({ cls := "SyntheticChainModel", name := "take", desc := "(I)I" } : Jvm.MethodName)) ∈ lw_all := lw_g (lw_at lw_m2 11 rfl) rfl
theorem q270 : (Jvm.Cond.code ({ cls := "SyntheticChainModel", name := "take", desc := "(I)I" } : Jvm.MethodName) prog_3_method_9_code (4 : Nat) (Option.some Jvm.ClassFile.FieldType.int)) ∈ lw_all := lw_g (lw_at lw_m2 12 rfl) rfl
theorem q272 : (Jvm.Cond.instanceMethod ({ cls := "SyntheticChainModel", name := "restore", desc := "(I)I" } : Jvm.MethodName)) ∈ lw_all := lw_g (lw_at lw_m2 14 rfl) rfl
theorem q273 : (Jvm.Cond.selects "SyntheticChainModel" ({ cls := "SyntheticChainModel", name := "restore", desc := "(I)I" } : Jvm.MethodName) ({ cls := "SyntheticChainModel", name := "restore", desc := "(I)I" } : Jvm.MethodName)) ∈ lw_all := lw_g (lw_at lw_m2 15 rfl) rfl
theorem q274 : (Jvm.Cond.code ({ cls := "SyntheticChainModel", name := "restore", desc := "(I)I" } : Jvm.MethodName) prog_3_method_12_code (4 : Nat) (Option.some Jvm.ClassFile.FieldType.int)) ∈ lw_all := lw_g (lw_at lw_m2 16 rfl) rfl
theorem q275 : (Jvm.Cond.methodLink "SyntheticChainModel" (43 : Nat) ({ cls := "SyntheticChainModel", name := "badPoint", desc := "(I)Z" } : Jvm.MethodName)) ∈ lw_all := lw_g (lw_at lw_m2 17 rfl) rfl
theorem q276 : (Jvm.Cond.privateMethod ({ cls := "SyntheticChainModel", name := "badPoint", desc := "(I)Z" } : Jvm.MethodName)) ∈ lw_tbl := lw_at lw_m2 18 rfl
theorem q277 : (Jvm.Cond.instanceMethod ({ cls := "SyntheticChainModel", name := "badPoint", desc := "(I)Z" } : Jvm.MethodName)) ∈ lw_all := lw_g (lw_at lw_m2 19 rfl) rfl
theorem q278 : (Jvm.Cond.code ({ cls := "SyntheticChainModel", name := "badPoint", desc := "(I)Z" } : Jvm.MethodName) prog_3_method_3_code (2 : Nat) (Option.some Jvm.ClassFile.FieldType.boolean)) ∈ lw_all := lw_g (lw_at lw_m2 20 rfl) rfl
theorem q279 : (Jvm.Cond.methodLink "SyntheticChainModel" (46 : Nat) ({ cls := "SyntheticChainModel", name := "changed", desc := "(II)Z" } : Jvm.MethodName)) ∈ lw_all := lw_g (lw_at lw_m2 21 rfl) rfl
theorem q280 : (Jvm.Cond.privateMethod ({ cls := "SyntheticChainModel", name := "changed", desc := "(II)Z" } : Jvm.MethodName)) ∈ lw_tbl := lw_at lw_m2 22 rfl
theorem q281 : (Jvm.Cond.instanceMethod ({ cls := "SyntheticChainModel", name := "changed", desc := "(II)Z" } : Jvm.MethodName)) ∈ lw_all := lw_g (lw_at lw_m2 23 rfl) rfl
theorem q282 : (Jvm.Cond.code ({ cls := "SyntheticChainModel", name := "changed", desc := "(II)Z" } : Jvm.MethodName) prog_3_method_10_code (3 : Nat) (Option.some Jvm.ClassFile.FieldType.boolean)) ∈ lw_all := lw_g (lw_at lw_m2 24 rfl) rfl
theorem q283 : (Jvm.Cond.methodLink "SyntheticChainModel" (50 : Nat) ({ cls := "SyntheticChainModel", name := "back", desc := "(II)V" } : Jvm.MethodName)) ∈ lw_all := lw_g (lw_at lw_m2 25 rfl) rfl
theorem q284 : (Jvm.Cond.privateMethod ({ cls := "SyntheticChainModel", name := "back", desc := "(II)V" } : Jvm.MethodName)) ∈ lw_tbl := lw_at lw_m2 26 rfl
theorem q285 : (Jvm.Cond.instanceMethod ({ cls := "SyntheticChainModel", name := "back", desc := "(II)V" } : Jvm.MethodName)) ∈ lw_all := lw_g (lw_at lw_m2 27 rfl) rfl
theorem q286 : (Jvm.Cond.code ({ cls := "SyntheticChainModel", name := "back", desc := "(II)V" } : Jvm.MethodName) prog_3_method_11_code (3 : Nat) (Option.none : Option Jvm.ClassFile.FieldType)) ∈ lw_all := lw_g (lw_at lw_m2 28 rfl) rfl
theorem q288 : (Jvm.Cond.instanceMethod ({ cls := "SyntheticChainModel", name := "restoreFile", desc := "(II)I" } : Jvm.MethodName)) ∈ lw_all := lw_g (lw_at lw_m2 30 rfl) rfl
theorem q289 : (Jvm.Cond.selects "SyntheticChainModel" ({ cls := "SyntheticChainModel", name := "restoreFile", desc := "(II)I" } : Jvm.MethodName) ({ cls := "SyntheticChainModel", name := "restoreFile", desc := "(II)I" } : Jvm.MethodName)) ∈ lw_all := lw_g (lw_at lw_m2 31 rfl) rfl
theorem q290 : (Jvm.Cond.code ({ cls := "SyntheticChainModel", name := "restoreFile", desc := "(II)I" } : Jvm.MethodName) prog_3_method_13_code (4 : Nat) (Option.some Jvm.ClassFile.FieldType.int)) ∈ lw_all := lw_g (lw_at lw_m2 32 rfl) rfl
theorem q292 : (Jvm.Cond.instanceMethod ({ cls := "SyntheticChainModel", name := "pin", desc := "(II)I" } : Jvm.MethodName)) ∈ lw_all := lw_g (lw_at lw_m2 34 rfl) rfl
theorem q293 : (Jvm.Cond.selects "SyntheticChainModel" ({ cls := "SyntheticChainModel", name := "pin", desc := "(II)I" } : Jvm.MethodName) ({ cls := "SyntheticChainModel", name := "pin", desc := "(II)I" } : Jvm.MethodName)) ∈ lw_all := lw_g (lw_at lw_m2 35 rfl) rfl
theorem q294 : (Jvm.Cond.code ({ cls := "SyntheticChainModel", name := "pin", desc := "(II)I" } : Jvm.MethodName) prog_3_method_14_code (4 : Nat) (Option.some Jvm.ClassFile.FieldType.int)) ∈ lw_all := lw_g (lw_at lw_m2 36 rfl) rfl
theorem q296 : (Jvm.Cond.instanceMethod ({ cls := "SyntheticChainModel", name := "forget", desc := "(I)I" } : Jvm.MethodName)) ∈ lw_all := lw_g (lw_at lw_m2 38 rfl) rfl
theorem q297 : (Jvm.Cond.selects "SyntheticChainModel" ({ cls := "SyntheticChainModel", name := "forget", desc := "(I)I" } : Jvm.MethodName) ({ cls := "SyntheticChainModel", name := "forget", desc := "(I)I" } : Jvm.MethodName)) ∈ lw_all := lw_g (lw_at lw_m2 39 rfl) rfl
theorem q298 : (Jvm.Cond.code ({ cls := "SyntheticChainModel", name := "forget", desc := "(I)I" } : Jvm.MethodName) prog_3_method_16_code (2 : Nat) (Option.some Jvm.ClassFile.FieldType.int)) ∈ lw_all := lw_g (lw_at lw_m2 40 rfl) rfl
theorem q299 : (Jvm.Cond.methodLink "SyntheticChainModel" (54 : Nat) ({ cls := "SyntheticChainModel", name := "takeOut", desc := "(I)V" } : Jvm.MethodName)) ∈ lw_all := lw_g (lw_at lw_m2 41 rfl) rfl
theorem q300 : (Jvm.Cond.privateMethod ({ cls := "SyntheticChainModel", name := "takeOut", desc := "(I)V" } : Jvm.MethodName)) ∈ lw_tbl := lw_at lw_m2 42 rfl
theorem q301 : (Jvm.Cond.instanceMethod ({ cls := "SyntheticChainModel", name := "takeOut", desc := "(I)V" } : Jvm.MethodName)) ∈ lw_all := lw_g (lw_at lw_m2 43 rfl) rfl
theorem q302 : (Jvm.Cond.code ({ cls := "SyntheticChainModel", name := "takeOut", desc := "(I)V" } : Jvm.MethodName) prog_3_method_15_code (4 : Nat) (Option.none : Option Jvm.ClassFile.FieldType)) ∈ lw_all := lw_g (lw_at lw_m2 44 rfl) rfl
theorem q304 : (Jvm.Cond.instanceMethod ({ cls := "SyntheticChainModel", name := "prune", desc := "(I)I" } : Jvm.MethodName)) ∈ lw_all := lw_g (lw_at lw_m2 46 rfl) rfl
theorem q305 : (Jvm.Cond.selects "SyntheticChainModel" ({ cls := "SyntheticChainModel", name := "prune", desc := "(I)I" } : Jvm.MethodName) ({ cls := "SyntheticChainModel", name := "prune", desc := "(I)I" } : Jvm.MethodName)) ∈ lw_all := lw_g (lw_at lw_m2 47 rfl) rfl
theorem q306 : (Jvm.Cond.code ({ cls := "SyntheticChainModel", name := "prune", desc := "(I)I" } : Jvm.MethodName) prog_3_method_19_code (4 : Nat) (Option.some Jvm.ClassFile.FieldType.int)) ∈ lw_all := lw_g (lw_at lw_m2 48 rfl) rfl
theorem q307 : (Jvm.Cond.methodLink "SyntheticChainModel" (61 : Nat) ({ cls := "SyntheticChainModel", name := "keep", desc := "(II)V" } : Jvm.MethodName)) ∈ lw_all := lw_g (lw_at lw_m2 49 rfl) rfl
theorem q308 : (Jvm.Cond.privateMethod ({ cls := "SyntheticChainModel", name := "keep", desc := "(II)V" } : Jvm.MethodName)) ∈ lw_tbl := lw_at lw_m2 50 rfl
theorem q309 : (Jvm.Cond.instanceMethod ({ cls := "SyntheticChainModel", name := "keep", desc := "(II)V" } : Jvm.MethodName)) ∈ lw_all := lw_g (lw_at lw_m2 51 rfl) rfl
theorem q310 : (Jvm.Cond.code ({ cls := "SyntheticChainModel", name := "keep", desc := "(II)V" } : Jvm.MethodName) prog_3_method_18_code (5 : Nat) (Option.none : Option Jvm.ClassFile.FieldType)) ∈ lw_all := lw_g (lw_at lw_m2 52 rfl) rfl
theorem q311 : (Jvm.Cond.methodLink "SyntheticChainModel" (58 : Nat) ({ cls := "SyntheticChainModel", name := "head", desc := "(II)Z" } : Jvm.MethodName)) ∈ lw_all := lw_g (lw_at lw_m2 53 rfl) rfl
theorem q312 : (Jvm.Cond.privateMethod ({ cls := "SyntheticChainModel", name := "head", desc := "(II)Z" } : Jvm.MethodName)) ∈ lw_tbl := lw_at lw_m2 54 rfl
theorem q313 : (Jvm.Cond.instanceMethod ({ cls := "SyntheticChainModel", name := "head", desc := "(II)Z" } : Jvm.MethodName)) ∈ lw_all := lw_g (lw_at lw_m2 55 rfl) rfl
theorem q314 : (Jvm.Cond.code ({ cls := "SyntheticChainModel", name := "head", desc := "(II)Z" } : Jvm.MethodName) prog_3_method_17_code (5 : Nat) (Option.some Jvm.ClassFile.FieldType.boolean)) ∈ lw_all := lw_g (lw_at lw_m2 56 rfl) rfl
theorem q316 : (Jvm.Cond.instanceMethod ({ cls := "SyntheticChainModel", name := "points", desc := "()I" } : Jvm.MethodName)) ∈ lw_all := lw_g (lw_at lw_m2 58 rfl) rfl
theorem q317 : (Jvm.Cond.selects "SyntheticChainModel" ({ cls := "SyntheticChainModel", name := "points", desc := "()I" } : Jvm.MethodName) ({ cls := "SyntheticChainModel", name := "points", desc := "()I" } : Jvm.MethodName)) ∈ lw_all := lw_g (lw_at lw_m2 59 rfl) rfl
theorem q318 : (Jvm.Cond.code ({ cls := "SyntheticChainModel", name := "points", desc := "()I" } : Jvm.MethodName) prog_3_method_20_code (1 : Nat) (Option.some Jvm.ClassFile.FieldType.int)) ∈ lw_all := lw_g (lw_at lw_m2 60 rfl) rfl
theorem q320 : (Jvm.Cond.instanceMethod ({ cls := "SyntheticChainModel", name := "dayOf", desc := "(I)I" } : Jvm.MethodName)) ∈ lw_all := lw_g (lw_at lw_m2 62 rfl) rfl
theorem q321 : (Jvm.Cond.selects "SyntheticChainModel" ({ cls := "SyntheticChainModel", name := "dayOf", desc := "(I)I" } : Jvm.MethodName) ({ cls := "SyntheticChainModel", name := "dayOf", desc := "(I)I" } : Jvm.MethodName)) ∈ lw_all := lw_g (lw_at lw_m2 63 rfl) rfl
theorem q322 : (Jvm.Cond.code ({ cls := "SyntheticChainModel", name := "dayOf", desc := "(I)I" } : Jvm.MethodName) prog_3_method_21_code (2 : Nat) (Option.some Jvm.ClassFile.FieldType.int)) ∈ lw_all := lw_g (lw_at lw_m2 64 rfl) rfl
theorem q324 : (Jvm.Cond.instanceMethod ({ cls := "SyntheticChainModel", name := "pinned", desc := "(I)I" } : Jvm.MethodName)) ∈ lw_all := lw_g (lw_at lw_m2 66 rfl) rfl
theorem q325 : (Jvm.Cond.selects "SyntheticChainModel" ({ cls := "SyntheticChainModel", name := "pinned", desc := "(I)I" } : Jvm.MethodName) ({ cls := "SyntheticChainModel", name := "pinned", desc := "(I)I" } : Jvm.MethodName)) ∈ lw_all := lw_g (lw_at lw_m2 67 rfl) rfl
theorem q326 : (Jvm.Cond.code ({ cls := "SyntheticChainModel", name := "pinned", desc := "(I)I" } : Jvm.MethodName) prog_3_method_22_code (2 : Nat) (Option.some Jvm.ClassFile.FieldType.int)) ∈ lw_all := lw_g (lw_at lw_m2 68 rfl) rfl
theorem q328 : (Jvm.Cond.instanceMethod ({ cls := "SyntheticChainModel", name := "there", desc := "(II)I" } : Jvm.MethodName)) ∈ lw_all := lw_g (lw_at lw_m2 70 rfl) rfl
theorem q329 : (Jvm.Cond.selects "SyntheticChainModel" ({ cls := "SyntheticChainModel", name := "there", desc := "(II)I" } : Jvm.MethodName) ({ cls := "SyntheticChainModel", name := "there", desc := "(II)I" } : Jvm.MethodName)) ∈ lw_all := lw_g (lw_at lw_m2 71 rfl) rfl
theorem q330 : (Jvm.Cond.code ({ cls := "SyntheticChainModel", name := "there", desc := "(II)I" } : Jvm.MethodName) prog_3_method_23_code (3 : Nat) (Option.some Jvm.ClassFile.FieldType.int)) ∈ lw_all := lw_g (lw_at lw_m2 72 rfl) rfl
theorem q332 : (Jvm.Cond.instanceMethod ({ cls := "SyntheticChainModel", name := "content", desc := "(II)I" } : Jvm.MethodName)) ∈ lw_all := lw_g (lw_at lw_m2 74 rfl) rfl
theorem q333 : (Jvm.Cond.selects "SyntheticChainModel" ({ cls := "SyntheticChainModel", name := "content", desc := "(II)I" } : Jvm.MethodName) ({ cls := "SyntheticChainModel", name := "content", desc := "(II)I" } : Jvm.MethodName)) ∈ lw_all := lw_g (lw_at lw_m2 75 rfl) rfl
theorem q334 : (Jvm.Cond.code ({ cls := "SyntheticChainModel", name := "content", desc := "(II)I" } : Jvm.MethodName) prog_3_method_24_code (3 : Nat) (Option.some Jvm.ClassFile.FieldType.int)) ∈ lw_all := lw_g (lw_at lw_m2 76 rfl) rfl
theorem q336 : (Jvm.Cond.instanceMethod ({ cls := "SyntheticChainModel", name := "liveThere", desc := "(I)I" } : Jvm.MethodName)) ∈ lw_all := lw_g (lw_at lw_m2 78 rfl) rfl
theorem q337 : (Jvm.Cond.selects "SyntheticChainModel" ({ cls := "SyntheticChainModel", name := "liveThere", desc := "(I)I" } : Jvm.MethodName) ({ cls := "SyntheticChainModel", name := "liveThere", desc := "(I)I" } : Jvm.MethodName)) ∈ lw_all := lw_g (lw_at lw_m2 79 rfl) rfl
theorem q338 : (Jvm.Cond.code ({ cls := "SyntheticChainModel", name := "liveThere", desc := "(I)I" } : Jvm.MethodName) prog_3_method_25_code (2 : Nat) (Option.some Jvm.ClassFile.FieldType.int)) ∈ lw_all := lw_g (lw_at lw_m2 80 rfl) rfl
theorem q340 : (Jvm.Cond.instanceMethod ({ cls := "SyntheticChainModel", name := "live", desc := "(I)I" } : Jvm.MethodName)) ∈ lw_all := lw_g (lw_at lw_m2 82 rfl) rfl
theorem q341 : (Jvm.Cond.selects "SyntheticChainModel" ({ cls := "SyntheticChainModel", name := "live", desc := "(I)I" } : Jvm.MethodName) ({ cls := "SyntheticChainModel", name := "live", desc := "(I)I" } : Jvm.MethodName)) ∈ lw_all := lw_g (lw_at lw_m2 83 rfl) rfl
theorem q342 : (Jvm.Cond.code ({ cls := "SyntheticChainModel", name := "live", desc := "(I)I" } : Jvm.MethodName) prog_3_method_26_code (2 : Nat) (Option.some Jvm.ClassFile.FieldType.int)) ∈ lw_all := lw_g (lw_at lw_m2 84 rfl) rfl
theorem q344 : (Jvm.Cond.instanceMethod ({ cls := "SyntheticChainModel", name := "differing", desc := "(II)I" } : Jvm.MethodName)) ∈ lw_all := lw_g (lw_at lw_m2 86 rfl) rfl
theorem q345 : (Jvm.Cond.selects "SyntheticChainModel" ({ cls := "SyntheticChainModel", name := "differing", desc := "(II)I" } : Jvm.MethodName) ({ cls := "SyntheticChainModel", name := "differing", desc := "(II)I" } : Jvm.MethodName)) ∈ lw_all := lw_g (lw_at lw_m2 87 rfl) rfl
theorem q346 : (Jvm.Cond.code ({ cls := "SyntheticChainModel", name := "differing", desc := "(II)I" } : Jvm.MethodName) prog_3_method_28_code (5 : Nat) (Option.some Jvm.ClassFile.FieldType.int)) ∈ lw_all := lw_g (lw_at lw_m2 88 rfl) rfl
theorem q347 : (Jvm.Cond.methodLink "SyntheticChainModel" (64 : Nat) ({ cls := "SyntheticChainModel", name := "differ", desc := "(III)Z" } : Jvm.MethodName)) ∈ lw_all := lw_g (lw_at lw_m2 89 rfl) rfl
theorem q348 : (Jvm.Cond.privateMethod ({ cls := "SyntheticChainModel", name := "differ", desc := "(III)Z" } : Jvm.MethodName)) ∈ lw_tbl := lw_at lw_m2 90 rfl
theorem q349 : (Jvm.Cond.instanceMethod ({ cls := "SyntheticChainModel", name := "differ", desc := "(III)Z" } : Jvm.MethodName)) ∈ lw_all := lw_g (lw_at lw_m2 91 rfl) rfl
theorem q350 : (Jvm.Cond.code ({ cls := "SyntheticChainModel", name := "differ", desc := "(III)Z" } : Jvm.MethodName) prog_3_method_27_code (4 : Nat) (Option.some Jvm.ClassFile.FieldType.boolean)) ∈ lw_all := lw_g (lw_at lw_m2 92 rfl) rfl
theorem q352 : (Jvm.Cond.instanceMethod ({ cls := "SyntheticChainModel", name := "changedSince", desc := "(I)I" } : Jvm.MethodName)) ∈ lw_all := lw_g (lw_at lw_m2 94 rfl) rfl
theorem q353 : (Jvm.Cond.selects "SyntheticChainModel" ({ cls := "SyntheticChainModel", name := "changedSince", desc := "(I)I" } : Jvm.MethodName) ({ cls := "SyntheticChainModel", name := "changedSince", desc := "(I)I" } : Jvm.MethodName)) ∈ lw_all := lw_g (lw_at lw_m2 95 rfl) rfl
theorem q354 : (Jvm.Cond.code ({ cls := "SyntheticChainModel", name := "changedSince", desc := "(I)I" } : Jvm.MethodName) prog_3_method_29_code (4 : Nat) (Option.some Jvm.ClassFile.FieldType.int)) ∈ lw_all := lw_g (lw_at lw_m2 96 rfl) rfl
theorem q356 : (Jvm.Cond.instanceMethod ({ cls := "SyntheticChainModel", name := "versions", desc := "(I)I" } : Jvm.MethodName)) ∈ lw_all := lw_g (lw_at lw_m2 98 rfl) rfl
theorem q357 : (Jvm.Cond.selects "SyntheticChainModel" ({ cls := "SyntheticChainModel", name := "versions", desc := "(I)I" } : Jvm.MethodName) ({ cls := "SyntheticChainModel", name := "versions", desc := "(I)I" } : Jvm.MethodName)) ∈ lw_all := lw_g (lw_at lw_m2 99 rfl) rfl
theorem q358 : (Jvm.Cond.code ({ cls := "SyntheticChainModel", name := "versions", desc := "(I)I" } : Jvm.MethodName) prog_3_method_30_code (4 : Nat) (Option.some Jvm.ClassFile.FieldType.int)) ∈ lw_all := lw_g (lw_at lw_m2 100 rfl) rfl
theorem q360 : (Jvm.Cond.instanceMethod ({ cls := "SyntheticChainModel", name := "sum", desc := "(I)I" } : Jvm.MethodName)) ∈ lw_all := lw_g (lw_at lw_m2 102 rfl) rfl
theorem q361 : (Jvm.Cond.selects "SyntheticChainModel" ({ cls := "SyntheticChainModel", name := "sum", desc := "(I)I" } : Jvm.MethodName) ({ cls := "SyntheticChainModel", name := "sum", desc := "(I)I" } : Jvm.MethodName)) ∈ lw_all := lw_g (lw_at lw_m2 103 rfl) rfl
theorem q362 : (Jvm.Cond.code ({ cls := "SyntheticChainModel", name := "sum", desc := "(I)I" } : Jvm.MethodName) prog_3_method_31_code (4 : Nat) (Option.some Jvm.ClassFile.FieldType.int)) ∈ lw_all := lw_g (lw_at lw_m2 104 rfl) rfl
theorem in_X1 : ∀ w ∈ wsX10, w ∈ lw_all := lw_in wsX10 [224, 226, 228, 230, 232, 234, 236, 238, 240] (by decide +kernel) (by decide +kernel)
end
section
/-! the law's own entry -/
set_option maxRecDepth 100000
abbrev cL_law : ByteArray := code
theorem dL_law_0 : decode cL_law 0 = .ok (.new 7, 3) := by decide +kernel
theorem dL_law_3 : decode cL_law 3 = .ok (.dup, 1) := by decide +kernel
theorem dL_law_4 : decode cL_law 4 = .ok (.invokespecial 9, 3) := by decide +kernel
theorem dL_law_7 : decode cL_law 7 = .ok (.astore_n 1, 1) := by decide +kernel
theorem dL_law_8 : decode cL_law 8 = .ok (.new 10, 3) := by decide +kernel
theorem dL_law_11 : decode cL_law 11 = .ok (.dup, 1) := by decide +kernel
theorem dL_law_12 : decode cL_law 12 = .ok (.invokespecial 12, 3) := by decide +kernel
theorem dL_law_15 : decode cL_law 15 = .ok (.astore_n 2, 1) := by decide +kernel
theorem dL_law_16 : decode cL_law 16 = .ok (.iconst 0, 1) := by decide +kernel
theorem dL_law_17 : decode cL_law 17 = .ok (.istore_n 3, 1) := by decide +kernel
theorem dL_law_18 : decode cL_law 18 = .ok (.iload_n 3, 1) := by decide +kernel
theorem dL_law_19 : decode cL_law 19 = .ok (.aload_n 0, 1) := by decide +kernel
theorem dL_law_20 : decode cL_law 20 = .ok (.arraylength, 1) := by decide +kernel
theorem dL_law_21 : decode cL_law 21 = .ok (.iconst 4, 1) := by decide +kernel
theorem dL_law_22 : decode cL_law 22 = .ok (.isub, 1) := by decide +kernel
theorem dL_law_23 : decode cL_law 23 = .ok (.if_icmp .gt 705, 3) := by decide +kernel
theorem dL_law_26 : decode cL_law 26 = .ok (.aload_n 0, 1) := by decide +kernel
theorem dL_law_27 : decode cL_law 27 = .ok (.iload_n 3, 1) := by decide +kernel
theorem dL_law_28 : decode cL_law 28 = .ok (.iaload, 1) := by decide +kernel
theorem dL_law_29 : decode cL_law 29 = .ok (.bipush 31, 2) := by decide +kernel
theorem dL_law_31 : decode cL_law 31 = .ok (.iand, 1) := by decide +kernel
theorem dL_law_32 : decode cL_law 32 = .ok (.tableswitch 690 0 21 #[104, 137, 160, 193, 236, 259, 282, 305, 338, 371, 394, 417, 430, 453, 476, 509, 542, 565, 588, 621, 644, 667], 104) := by decide +kernel
theorem dL_law_136 : decode cL_law 136 = .ok (.aload_n 1, 1) := by decide +kernel
theorem dL_law_137 : decode cL_law 137 = .ok (.aload_n 0, 1) := by decide +kernel
theorem dL_law_138 : decode cL_law 138 = .ok (.iload_n 3, 1) := by decide +kernel
theorem dL_law_139 : decode cL_law 139 = .ok (.iconst 1, 1) := by decide +kernel
theorem dL_law_140 : decode cL_law 140 = .ok (.iadd, 1) := by decide +kernel
theorem dL_law_141 : decode cL_law 141 = .ok (.iaload, 1) := by decide +kernel
theorem dL_law_142 : decode cL_law 142 = .ok (.aload_n 0, 1) := by decide +kernel
theorem dL_law_143 : decode cL_law 143 = .ok (.iload_n 3, 1) := by decide +kernel
theorem dL_law_144 : decode cL_law 144 = .ok (.iconst 2, 1) := by decide +kernel
theorem dL_law_145 : decode cL_law 145 = .ok (.iadd, 1) := by decide +kernel
theorem dL_law_146 : decode cL_law 146 = .ok (.iaload, 1) := by decide +kernel
theorem dL_law_147 : decode cL_law 147 = .ok (.invokevirtual 13, 3) := by decide +kernel
theorem dL_law_150 : decode cL_law 150 = .ok (.aload_n 2, 1) := by decide +kernel
theorem dL_law_151 : decode cL_law 151 = .ok (.aload_n 0, 1) := by decide +kernel
theorem dL_law_152 : decode cL_law 152 = .ok (.iload_n 3, 1) := by decide +kernel
theorem dL_law_153 : decode cL_law 153 = .ok (.iconst 1, 1) := by decide +kernel
theorem dL_law_154 : decode cL_law 154 = .ok (.iadd, 1) := by decide +kernel
theorem dL_law_155 : decode cL_law 155 = .ok (.iaload, 1) := by decide +kernel
theorem dL_law_156 : decode cL_law 156 = .ok (.aload_n 0, 1) := by decide +kernel
theorem dL_law_157 : decode cL_law 157 = .ok (.iload_n 3, 1) := by decide +kernel
theorem dL_law_158 : decode cL_law 158 = .ok (.iconst 2, 1) := by decide +kernel
theorem dL_law_159 : decode cL_law 159 = .ok (.iadd, 1) := by decide +kernel
theorem dL_law_160 : decode cL_law 160 = .ok (.iaload, 1) := by decide +kernel
theorem dL_law_161 : decode cL_law 161 = .ok (.invokevirtual 17, 3) := by decide +kernel
theorem dL_law_164 : decode cL_law 164 = .ok (.if_icmp .eq 558, 3) := by decide +kernel
theorem dL_law_167 : decode cL_law 167 = .ok (.iconst 0, 1) := by decide +kernel
theorem dL_law_168 : decode cL_law 168 = .ok (.ireturn, 1) := by decide +kernel
theorem dL_law_169 : decode cL_law 169 = .ok (.aload_n 1, 1) := by decide +kernel
theorem dL_law_170 : decode cL_law 170 = .ok (.aload_n 0, 1) := by decide +kernel
theorem dL_law_171 : decode cL_law 171 = .ok (.iload_n 3, 1) := by decide +kernel
theorem dL_law_172 : decode cL_law 172 = .ok (.iconst 1, 1) := by decide +kernel
theorem dL_law_173 : decode cL_law 173 = .ok (.iadd, 1) := by decide +kernel
theorem dL_law_174 : decode cL_law 174 = .ok (.iaload, 1) := by decide +kernel
theorem dL_law_175 : decode cL_law 175 = .ok (.invokevirtual 18, 3) := by decide +kernel
theorem dL_law_178 : decode cL_law 178 = .ok (.aload_n 2, 1) := by decide +kernel
theorem dL_law_179 : decode cL_law 179 = .ok (.aload_n 0, 1) := by decide +kernel
theorem dL_law_180 : decode cL_law 180 = .ok (.iload_n 3, 1) := by decide +kernel
theorem dL_law_181 : decode cL_law 181 = .ok (.iconst 1, 1) := by decide +kernel
theorem dL_law_182 : decode cL_law 182 = .ok (.iadd, 1) := by decide +kernel
theorem dL_law_183 : decode cL_law 183 = .ok (.iaload, 1) := by decide +kernel
theorem dL_law_184 : decode cL_law 184 = .ok (.invokevirtual 22, 3) := by decide +kernel
theorem dL_law_187 : decode cL_law 187 = .ok (.if_icmp .eq 535, 3) := by decide +kernel
theorem dL_law_190 : decode cL_law 190 = .ok (.iconst 0, 1) := by decide +kernel
theorem dL_law_191 : decode cL_law 191 = .ok (.ireturn, 1) := by decide +kernel
theorem dL_law_192 : decode cL_law 192 = .ok (.aload_n 1, 1) := by decide +kernel
theorem dL_law_193 : decode cL_law 193 = .ok (.aload_n 0, 1) := by decide +kernel
theorem dL_law_194 : decode cL_law 194 = .ok (.iload_n 3, 1) := by decide +kernel
theorem dL_law_195 : decode cL_law 195 = .ok (.iconst 1, 1) := by decide +kernel
theorem dL_law_196 : decode cL_law 196 = .ok (.iadd, 1) := by decide +kernel
theorem dL_law_197 : decode cL_law 197 = .ok (.iaload, 1) := by decide +kernel
theorem dL_law_198 : decode cL_law 198 = .ok (.aload_n 0, 1) := by decide +kernel
theorem dL_law_199 : decode cL_law 199 = .ok (.iload_n 3, 1) := by decide +kernel
theorem dL_law_200 : decode cL_law 200 = .ok (.iconst 2, 1) := by decide +kernel
theorem dL_law_201 : decode cL_law 201 = .ok (.iadd, 1) := by decide +kernel
theorem dL_law_202 : decode cL_law 202 = .ok (.iaload, 1) := by decide +kernel
theorem dL_law_203 : decode cL_law 203 = .ok (.invokevirtual 23, 3) := by decide +kernel
theorem dL_law_206 : decode cL_law 206 = .ok (.aload_n 2, 1) := by decide +kernel
theorem dL_law_207 : decode cL_law 207 = .ok (.aload_n 0, 1) := by decide +kernel
theorem dL_law_208 : decode cL_law 208 = .ok (.iload_n 3, 1) := by decide +kernel
theorem dL_law_209 : decode cL_law 209 = .ok (.iconst 1, 1) := by decide +kernel
theorem dL_law_210 : decode cL_law 210 = .ok (.iadd, 1) := by decide +kernel
theorem dL_law_211 : decode cL_law 211 = .ok (.iaload, 1) := by decide +kernel
theorem dL_law_212 : decode cL_law 212 = .ok (.aload_n 0, 1) := by decide +kernel
theorem dL_law_213 : decode cL_law 213 = .ok (.iload_n 3, 1) := by decide +kernel
theorem dL_law_214 : decode cL_law 214 = .ok (.iconst 2, 1) := by decide +kernel
theorem dL_law_215 : decode cL_law 215 = .ok (.iadd, 1) := by decide +kernel
theorem dL_law_216 : decode cL_law 216 = .ok (.iaload, 1) := by decide +kernel
theorem dL_law_217 : decode cL_law 217 = .ok (.invokevirtual 26, 3) := by decide +kernel
theorem dL_law_220 : decode cL_law 220 = .ok (.if_icmp .eq 502, 3) := by decide +kernel
theorem dL_law_223 : decode cL_law 223 = .ok (.iconst 0, 1) := by decide +kernel
theorem dL_law_224 : decode cL_law 224 = .ok (.ireturn, 1) := by decide +kernel
theorem dL_law_225 : decode cL_law 225 = .ok (.aload_n 1, 1) := by decide +kernel
theorem dL_law_226 : decode cL_law 226 = .ok (.aload_n 0, 1) := by decide +kernel
theorem dL_law_227 : decode cL_law 227 = .ok (.iload_n 3, 1) := by decide +kernel
theorem dL_law_228 : decode cL_law 228 = .ok (.iconst 1, 1) := by decide +kernel
theorem dL_law_229 : decode cL_law 229 = .ok (.iadd, 1) := by decide +kernel
theorem dL_law_230 : decode cL_law 230 = .ok (.iaload, 1) := by decide +kernel
theorem dL_law_231 : decode cL_law 231 = .ok (.aload_n 0, 1) := by decide +kernel
theorem dL_law_232 : decode cL_law 232 = .ok (.iload_n 3, 1) := by decide +kernel
theorem dL_law_233 : decode cL_law 233 = .ok (.iconst 2, 1) := by decide +kernel
theorem dL_law_234 : decode cL_law 234 = .ok (.iadd, 1) := by decide +kernel
theorem dL_law_235 : decode cL_law 235 = .ok (.iaload, 1) := by decide +kernel
theorem dL_law_236 : decode cL_law 236 = .ok (.aload_n 0, 1) := by decide +kernel
theorem dL_law_237 : decode cL_law 237 = .ok (.iload_n 3, 1) := by decide +kernel
theorem dL_law_238 : decode cL_law 238 = .ok (.iconst 3, 1) := by decide +kernel
theorem dL_law_239 : decode cL_law 239 = .ok (.iadd, 1) := by decide +kernel
theorem dL_law_240 : decode cL_law 240 = .ok (.iaload, 1) := by decide +kernel
theorem dL_law_241 : decode cL_law 241 = .ok (.invokevirtual 27, 3) := by decide +kernel
theorem dL_law_244 : decode cL_law 244 = .ok (.aload_n 2, 1) := by decide +kernel
theorem dL_law_245 : decode cL_law 245 = .ok (.aload_n 0, 1) := by decide +kernel
theorem dL_law_246 : decode cL_law 246 = .ok (.iload_n 3, 1) := by decide +kernel
theorem dL_law_247 : decode cL_law 247 = .ok (.iconst 1, 1) := by decide +kernel
theorem dL_law_248 : decode cL_law 248 = .ok (.iadd, 1) := by decide +kernel
theorem dL_law_249 : decode cL_law 249 = .ok (.iaload, 1) := by decide +kernel
theorem dL_law_250 : decode cL_law 250 = .ok (.aload_n 0, 1) := by decide +kernel
theorem dL_law_251 : decode cL_law 251 = .ok (.iload_n 3, 1) := by decide +kernel
theorem dL_law_252 : decode cL_law 252 = .ok (.iconst 2, 1) := by decide +kernel
theorem dL_law_253 : decode cL_law 253 = .ok (.iadd, 1) := by decide +kernel
theorem dL_law_254 : decode cL_law 254 = .ok (.iaload, 1) := by decide +kernel
theorem dL_law_255 : decode cL_law 255 = .ok (.aload_n 0, 1) := by decide +kernel
theorem dL_law_256 : decode cL_law 256 = .ok (.iload_n 3, 1) := by decide +kernel
theorem dL_law_257 : decode cL_law 257 = .ok (.iconst 3, 1) := by decide +kernel
theorem dL_law_258 : decode cL_law 258 = .ok (.iadd, 1) := by decide +kernel
theorem dL_law_259 : decode cL_law 259 = .ok (.iaload, 1) := by decide +kernel
theorem dL_law_260 : decode cL_law 260 = .ok (.invokevirtual 31, 3) := by decide +kernel
theorem dL_law_263 : decode cL_law 263 = .ok (.if_icmp .eq 459, 3) := by decide +kernel
theorem dL_law_266 : decode cL_law 266 = .ok (.iconst 0, 1) := by decide +kernel
theorem dL_law_267 : decode cL_law 267 = .ok (.ireturn, 1) := by decide +kernel
theorem dL_law_268 : decode cL_law 268 = .ok (.aload_n 1, 1) := by decide +kernel
theorem dL_law_269 : decode cL_law 269 = .ok (.aload_n 0, 1) := by decide +kernel
theorem dL_law_270 : decode cL_law 270 = .ok (.iload_n 3, 1) := by decide +kernel
theorem dL_law_271 : decode cL_law 271 = .ok (.iconst 1, 1) := by decide +kernel
theorem dL_law_272 : decode cL_law 272 = .ok (.iadd, 1) := by decide +kernel
theorem dL_law_273 : decode cL_law 273 = .ok (.iaload, 1) := by decide +kernel
theorem dL_law_274 : decode cL_law 274 = .ok (.invokevirtual 32, 3) := by decide +kernel
theorem dL_law_277 : decode cL_law 277 = .ok (.aload_n 2, 1) := by decide +kernel
theorem dL_law_278 : decode cL_law 278 = .ok (.aload_n 0, 1) := by decide +kernel
theorem dL_law_279 : decode cL_law 279 = .ok (.iload_n 3, 1) := by decide +kernel
theorem dL_law_280 : decode cL_law 280 = .ok (.iconst 1, 1) := by decide +kernel
theorem dL_law_281 : decode cL_law 281 = .ok (.iadd, 1) := by decide +kernel
theorem dL_law_282 : decode cL_law 282 = .ok (.iaload, 1) := by decide +kernel
theorem dL_law_283 : decode cL_law 283 = .ok (.invokevirtual 35, 3) := by decide +kernel
theorem dL_law_286 : decode cL_law 286 = .ok (.if_icmp .eq 436, 3) := by decide +kernel
theorem dL_law_289 : decode cL_law 289 = .ok (.iconst 0, 1) := by decide +kernel
theorem dL_law_290 : decode cL_law 290 = .ok (.ireturn, 1) := by decide +kernel
theorem dL_law_291 : decode cL_law 291 = .ok (.aload_n 1, 1) := by decide +kernel
theorem dL_law_292 : decode cL_law 292 = .ok (.aload_n 0, 1) := by decide +kernel
theorem dL_law_293 : decode cL_law 293 = .ok (.iload_n 3, 1) := by decide +kernel
theorem dL_law_294 : decode cL_law 294 = .ok (.iconst 1, 1) := by decide +kernel
theorem dL_law_295 : decode cL_law 295 = .ok (.iadd, 1) := by decide +kernel
theorem dL_law_296 : decode cL_law 296 = .ok (.iaload, 1) := by decide +kernel
theorem dL_law_297 : decode cL_law 297 = .ok (.invokevirtual 36, 3) := by decide +kernel
theorem dL_law_300 : decode cL_law 300 = .ok (.aload_n 2, 1) := by decide +kernel
theorem dL_law_301 : decode cL_law 301 = .ok (.aload_n 0, 1) := by decide +kernel
theorem dL_law_302 : decode cL_law 302 = .ok (.iload_n 3, 1) := by decide +kernel
theorem dL_law_303 : decode cL_law 303 = .ok (.iconst 1, 1) := by decide +kernel
theorem dL_law_304 : decode cL_law 304 = .ok (.iadd, 1) := by decide +kernel
theorem dL_law_305 : decode cL_law 305 = .ok (.iaload, 1) := by decide +kernel
theorem dL_law_306 : decode cL_law 306 = .ok (.invokevirtual 39, 3) := by decide +kernel
theorem dL_law_309 : decode cL_law 309 = .ok (.if_icmp .eq 413, 3) := by decide +kernel
theorem dL_law_312 : decode cL_law 312 = .ok (.iconst 0, 1) := by decide +kernel
theorem dL_law_313 : decode cL_law 313 = .ok (.ireturn, 1) := by decide +kernel
theorem dL_law_314 : decode cL_law 314 = .ok (.aload_n 1, 1) := by decide +kernel
theorem dL_law_315 : decode cL_law 315 = .ok (.aload_n 0, 1) := by decide +kernel
theorem dL_law_316 : decode cL_law 316 = .ok (.iload_n 3, 1) := by decide +kernel
theorem dL_law_317 : decode cL_law 317 = .ok (.iconst 1, 1) := by decide +kernel
theorem dL_law_318 : decode cL_law 318 = .ok (.iadd, 1) := by decide +kernel
theorem dL_law_319 : decode cL_law 319 = .ok (.iaload, 1) := by decide +kernel
theorem dL_law_320 : decode cL_law 320 = .ok (.invokevirtual 40, 3) := by decide +kernel
theorem dL_law_323 : decode cL_law 323 = .ok (.aload_n 2, 1) := by decide +kernel
theorem dL_law_324 : decode cL_law 324 = .ok (.aload_n 0, 1) := by decide +kernel
theorem dL_law_325 : decode cL_law 325 = .ok (.iload_n 3, 1) := by decide +kernel
theorem dL_law_326 : decode cL_law 326 = .ok (.iconst 1, 1) := by decide +kernel
theorem dL_law_327 : decode cL_law 327 = .ok (.iadd, 1) := by decide +kernel
theorem dL_law_328 : decode cL_law 328 = .ok (.iaload, 1) := by decide +kernel
theorem dL_law_329 : decode cL_law 329 = .ok (.invokevirtual 43, 3) := by decide +kernel
theorem dL_law_332 : decode cL_law 332 = .ok (.if_icmp .eq 390, 3) := by decide +kernel
theorem dL_law_335 : decode cL_law 335 = .ok (.iconst 0, 1) := by decide +kernel
theorem dL_law_336 : decode cL_law 336 = .ok (.ireturn, 1) := by decide +kernel
theorem dL_law_337 : decode cL_law 337 = .ok (.aload_n 1, 1) := by decide +kernel
theorem dL_law_338 : decode cL_law 338 = .ok (.aload_n 0, 1) := by decide +kernel
theorem dL_law_339 : decode cL_law 339 = .ok (.iload_n 3, 1) := by decide +kernel
theorem dL_law_340 : decode cL_law 340 = .ok (.iconst 1, 1) := by decide +kernel
theorem dL_law_341 : decode cL_law 341 = .ok (.iadd, 1) := by decide +kernel
theorem dL_law_342 : decode cL_law 342 = .ok (.iaload, 1) := by decide +kernel
theorem dL_law_343 : decode cL_law 343 = .ok (.aload_n 0, 1) := by decide +kernel
theorem dL_law_344 : decode cL_law 344 = .ok (.iload_n 3, 1) := by decide +kernel
theorem dL_law_345 : decode cL_law 345 = .ok (.iconst 2, 1) := by decide +kernel
theorem dL_law_346 : decode cL_law 346 = .ok (.iadd, 1) := by decide +kernel
theorem dL_law_347 : decode cL_law 347 = .ok (.iaload, 1) := by decide +kernel
theorem dL_law_348 : decode cL_law 348 = .ok (.invokevirtual 44, 3) := by decide +kernel
theorem dL_law_351 : decode cL_law 351 = .ok (.aload_n 2, 1) := by decide +kernel
theorem dL_law_352 : decode cL_law 352 = .ok (.aload_n 0, 1) := by decide +kernel
theorem dL_law_353 : decode cL_law 353 = .ok (.iload_n 3, 1) := by decide +kernel
theorem dL_law_354 : decode cL_law 354 = .ok (.iconst 1, 1) := by decide +kernel
theorem dL_law_355 : decode cL_law 355 = .ok (.iadd, 1) := by decide +kernel
theorem dL_law_356 : decode cL_law 356 = .ok (.iaload, 1) := by decide +kernel
theorem dL_law_357 : decode cL_law 357 = .ok (.aload_n 0, 1) := by decide +kernel
theorem dL_law_358 : decode cL_law 358 = .ok (.iload_n 3, 1) := by decide +kernel
theorem dL_law_359 : decode cL_law 359 = .ok (.iconst 2, 1) := by decide +kernel
theorem dL_law_360 : decode cL_law 360 = .ok (.iadd, 1) := by decide +kernel
theorem dL_law_361 : decode cL_law 361 = .ok (.iaload, 1) := by decide +kernel
theorem dL_law_362 : decode cL_law 362 = .ok (.invokevirtual 47, 3) := by decide +kernel
theorem dL_law_365 : decode cL_law 365 = .ok (.if_icmp .eq 357, 3) := by decide +kernel
theorem dL_law_368 : decode cL_law 368 = .ok (.iconst 0, 1) := by decide +kernel
theorem dL_law_369 : decode cL_law 369 = .ok (.ireturn, 1) := by decide +kernel
theorem dL_law_370 : decode cL_law 370 = .ok (.aload_n 1, 1) := by decide +kernel
theorem dL_law_371 : decode cL_law 371 = .ok (.aload_n 0, 1) := by decide +kernel
theorem dL_law_372 : decode cL_law 372 = .ok (.iload_n 3, 1) := by decide +kernel
theorem dL_law_373 : decode cL_law 373 = .ok (.iconst 1, 1) := by decide +kernel
theorem dL_law_374 : decode cL_law 374 = .ok (.iadd, 1) := by decide +kernel
theorem dL_law_375 : decode cL_law 375 = .ok (.iaload, 1) := by decide +kernel
theorem dL_law_376 : decode cL_law 376 = .ok (.aload_n 0, 1) := by decide +kernel
theorem dL_law_377 : decode cL_law 377 = .ok (.iload_n 3, 1) := by decide +kernel
theorem dL_law_378 : decode cL_law 378 = .ok (.iconst 2, 1) := by decide +kernel
theorem dL_law_379 : decode cL_law 379 = .ok (.iadd, 1) := by decide +kernel
theorem dL_law_380 : decode cL_law 380 = .ok (.iaload, 1) := by decide +kernel
theorem dL_law_381 : decode cL_law 381 = .ok (.invokevirtual 48, 3) := by decide +kernel
theorem dL_law_384 : decode cL_law 384 = .ok (.aload_n 2, 1) := by decide +kernel
theorem dL_law_385 : decode cL_law 385 = .ok (.aload_n 0, 1) := by decide +kernel
theorem dL_law_386 : decode cL_law 386 = .ok (.iload_n 3, 1) := by decide +kernel
theorem dL_law_387 : decode cL_law 387 = .ok (.iconst 1, 1) := by decide +kernel
theorem dL_law_388 : decode cL_law 388 = .ok (.iadd, 1) := by decide +kernel
theorem dL_law_389 : decode cL_law 389 = .ok (.iaload, 1) := by decide +kernel
theorem dL_law_390 : decode cL_law 390 = .ok (.aload_n 0, 1) := by decide +kernel
theorem dL_law_391 : decode cL_law 391 = .ok (.iload_n 3, 1) := by decide +kernel
theorem dL_law_392 : decode cL_law 392 = .ok (.iconst 2, 1) := by decide +kernel
theorem dL_law_393 : decode cL_law 393 = .ok (.iadd, 1) := by decide +kernel
theorem dL_law_394 : decode cL_law 394 = .ok (.iaload, 1) := by decide +kernel
theorem dL_law_395 : decode cL_law 395 = .ok (.invokevirtual 51, 3) := by decide +kernel
theorem dL_law_398 : decode cL_law 398 = .ok (.if_icmp .eq 324, 3) := by decide +kernel
theorem dL_law_401 : decode cL_law 401 = .ok (.iconst 0, 1) := by decide +kernel
theorem dL_law_402 : decode cL_law 402 = .ok (.ireturn, 1) := by decide +kernel
theorem dL_law_403 : decode cL_law 403 = .ok (.aload_n 1, 1) := by decide +kernel
theorem dL_law_404 : decode cL_law 404 = .ok (.aload_n 0, 1) := by decide +kernel
theorem dL_law_405 : decode cL_law 405 = .ok (.iload_n 3, 1) := by decide +kernel
theorem dL_law_406 : decode cL_law 406 = .ok (.iconst 1, 1) := by decide +kernel
theorem dL_law_407 : decode cL_law 407 = .ok (.iadd, 1) := by decide +kernel
theorem dL_law_408 : decode cL_law 408 = .ok (.iaload, 1) := by decide +kernel
theorem dL_law_409 : decode cL_law 409 = .ok (.invokevirtual 52, 3) := by decide +kernel
theorem dL_law_412 : decode cL_law 412 = .ok (.aload_n 2, 1) := by decide +kernel
theorem dL_law_413 : decode cL_law 413 = .ok (.aload_n 0, 1) := by decide +kernel
theorem dL_law_414 : decode cL_law 414 = .ok (.iload_n 3, 1) := by decide +kernel
theorem dL_law_415 : decode cL_law 415 = .ok (.iconst 1, 1) := by decide +kernel
theorem dL_law_416 : decode cL_law 416 = .ok (.iadd, 1) := by decide +kernel
theorem dL_law_417 : decode cL_law 417 = .ok (.iaload, 1) := by decide +kernel
theorem dL_law_418 : decode cL_law 418 = .ok (.invokevirtual 55, 3) := by decide +kernel
theorem dL_law_421 : decode cL_law 421 = .ok (.if_icmp .eq 301, 3) := by decide +kernel
theorem dL_law_424 : decode cL_law 424 = .ok (.iconst 0, 1) := by decide +kernel
theorem dL_law_425 : decode cL_law 425 = .ok (.ireturn, 1) := by decide +kernel
theorem dL_law_426 : decode cL_law 426 = .ok (.aload_n 1, 1) := by decide +kernel
theorem dL_law_427 : decode cL_law 427 = .ok (.aload_n 0, 1) := by decide +kernel
theorem dL_law_428 : decode cL_law 428 = .ok (.iload_n 3, 1) := by decide +kernel
theorem dL_law_429 : decode cL_law 429 = .ok (.iconst 1, 1) := by decide +kernel
theorem dL_law_430 : decode cL_law 430 = .ok (.iadd, 1) := by decide +kernel
theorem dL_law_431 : decode cL_law 431 = .ok (.iaload, 1) := by decide +kernel
theorem dL_law_432 : decode cL_law 432 = .ok (.invokevirtual 56, 3) := by decide +kernel
theorem dL_law_435 : decode cL_law 435 = .ok (.aload_n 2, 1) := by decide +kernel
theorem dL_law_436 : decode cL_law 436 = .ok (.aload_n 0, 1) := by decide +kernel
theorem dL_law_437 : decode cL_law 437 = .ok (.iload_n 3, 1) := by decide +kernel
theorem dL_law_438 : decode cL_law 438 = .ok (.iconst 1, 1) := by decide +kernel
theorem dL_law_439 : decode cL_law 439 = .ok (.iadd, 1) := by decide +kernel
theorem dL_law_440 : decode cL_law 440 = .ok (.iaload, 1) := by decide +kernel
theorem dL_law_441 : decode cL_law 441 = .ok (.invokevirtual 59, 3) := by decide +kernel
theorem dL_law_444 : decode cL_law 444 = .ok (.if_icmp .eq 278, 3) := by decide +kernel
theorem dL_law_447 : decode cL_law 447 = .ok (.iconst 0, 1) := by decide +kernel
theorem dL_law_448 : decode cL_law 448 = .ok (.ireturn, 1) := by decide +kernel
theorem dL_law_449 : decode cL_law 449 = .ok (.aload_n 1, 1) := by decide +kernel
theorem dL_law_450 : decode cL_law 450 = .ok (.invokevirtual 60, 3) := by decide +kernel
theorem dL_law_453 : decode cL_law 453 = .ok (.aload_n 2, 1) := by decide +kernel
theorem dL_law_454 : decode cL_law 454 = .ok (.invokevirtual 64, 3) := by decide +kernel
theorem dL_law_457 : decode cL_law 457 = .ok (.if_icmp .eq 265, 3) := by decide +kernel
theorem dL_law_460 : decode cL_law 460 = .ok (.iconst 0, 1) := by decide +kernel
theorem dL_law_461 : decode cL_law 461 = .ok (.ireturn, 1) := by decide +kernel
theorem dL_law_462 : decode cL_law 462 = .ok (.aload_n 1, 1) := by decide +kernel
theorem dL_law_463 : decode cL_law 463 = .ok (.aload_n 0, 1) := by decide +kernel
theorem dL_law_464 : decode cL_law 464 = .ok (.iload_n 3, 1) := by decide +kernel
theorem dL_law_465 : decode cL_law 465 = .ok (.iconst 1, 1) := by decide +kernel
theorem dL_law_466 : decode cL_law 466 = .ok (.iadd, 1) := by decide +kernel
theorem dL_law_467 : decode cL_law 467 = .ok (.iaload, 1) := by decide +kernel
theorem dL_law_468 : decode cL_law 468 = .ok (.invokevirtual 65, 3) := by decide +kernel
theorem dL_law_471 : decode cL_law 471 = .ok (.aload_n 2, 1) := by decide +kernel
theorem dL_law_472 : decode cL_law 472 = .ok (.aload_n 0, 1) := by decide +kernel
theorem dL_law_473 : decode cL_law 473 = .ok (.iload_n 3, 1) := by decide +kernel
theorem dL_law_474 : decode cL_law 474 = .ok (.iconst 1, 1) := by decide +kernel
theorem dL_law_475 : decode cL_law 475 = .ok (.iadd, 1) := by decide +kernel
theorem dL_law_476 : decode cL_law 476 = .ok (.iaload, 1) := by decide +kernel
theorem dL_law_477 : decode cL_law 477 = .ok (.invokevirtual 68, 3) := by decide +kernel
theorem dL_law_480 : decode cL_law 480 = .ok (.if_icmp .eq 242, 3) := by decide +kernel
theorem dL_law_483 : decode cL_law 483 = .ok (.iconst 0, 1) := by decide +kernel
theorem dL_law_484 : decode cL_law 484 = .ok (.ireturn, 1) := by decide +kernel
theorem dL_law_485 : decode cL_law 485 = .ok (.aload_n 1, 1) := by decide +kernel
theorem dL_law_486 : decode cL_law 486 = .ok (.aload_n 0, 1) := by decide +kernel
theorem dL_law_487 : decode cL_law 487 = .ok (.iload_n 3, 1) := by decide +kernel
theorem dL_law_488 : decode cL_law 488 = .ok (.iconst 1, 1) := by decide +kernel
theorem dL_law_489 : decode cL_law 489 = .ok (.iadd, 1) := by decide +kernel
theorem dL_law_490 : decode cL_law 490 = .ok (.iaload, 1) := by decide +kernel
theorem dL_law_491 : decode cL_law 491 = .ok (.invokevirtual 69, 3) := by decide +kernel
theorem dL_law_494 : decode cL_law 494 = .ok (.aload_n 2, 1) := by decide +kernel
theorem dL_law_495 : decode cL_law 495 = .ok (.aload_n 0, 1) := by decide +kernel
theorem dL_law_496 : decode cL_law 496 = .ok (.iload_n 3, 1) := by decide +kernel
theorem dL_law_497 : decode cL_law 497 = .ok (.iconst 1, 1) := by decide +kernel
theorem dL_law_498 : decode cL_law 498 = .ok (.iadd, 1) := by decide +kernel
theorem dL_law_499 : decode cL_law 499 = .ok (.iaload, 1) := by decide +kernel
theorem dL_law_500 : decode cL_law 500 = .ok (.invokevirtual 72, 3) := by decide +kernel
theorem dL_law_503 : decode cL_law 503 = .ok (.if_icmp .eq 219, 3) := by decide +kernel
theorem dL_law_506 : decode cL_law 506 = .ok (.iconst 0, 1) := by decide +kernel
theorem dL_law_507 : decode cL_law 507 = .ok (.ireturn, 1) := by decide +kernel
theorem dL_law_508 : decode cL_law 508 = .ok (.aload_n 1, 1) := by decide +kernel
theorem dL_law_509 : decode cL_law 509 = .ok (.aload_n 0, 1) := by decide +kernel
theorem dL_law_510 : decode cL_law 510 = .ok (.iload_n 3, 1) := by decide +kernel
theorem dL_law_511 : decode cL_law 511 = .ok (.iconst 1, 1) := by decide +kernel
theorem dL_law_512 : decode cL_law 512 = .ok (.iadd, 1) := by decide +kernel
theorem dL_law_513 : decode cL_law 513 = .ok (.iaload, 1) := by decide +kernel
theorem dL_law_514 : decode cL_law 514 = .ok (.aload_n 0, 1) := by decide +kernel
theorem dL_law_515 : decode cL_law 515 = .ok (.iload_n 3, 1) := by decide +kernel
theorem dL_law_516 : decode cL_law 516 = .ok (.iconst 2, 1) := by decide +kernel
theorem dL_law_517 : decode cL_law 517 = .ok (.iadd, 1) := by decide +kernel
theorem dL_law_518 : decode cL_law 518 = .ok (.iaload, 1) := by decide +kernel
theorem dL_law_519 : decode cL_law 519 = .ok (.invokevirtual 73, 3) := by decide +kernel
theorem dL_law_522 : decode cL_law 522 = .ok (.aload_n 2, 1) := by decide +kernel
theorem dL_law_523 : decode cL_law 523 = .ok (.aload_n 0, 1) := by decide +kernel
theorem dL_law_524 : decode cL_law 524 = .ok (.iload_n 3, 1) := by decide +kernel
theorem dL_law_525 : decode cL_law 525 = .ok (.iconst 1, 1) := by decide +kernel
theorem dL_law_526 : decode cL_law 526 = .ok (.iadd, 1) := by decide +kernel
theorem dL_law_527 : decode cL_law 527 = .ok (.iaload, 1) := by decide +kernel
theorem dL_law_528 : decode cL_law 528 = .ok (.aload_n 0, 1) := by decide +kernel
theorem dL_law_529 : decode cL_law 529 = .ok (.iload_n 3, 1) := by decide +kernel
theorem dL_law_530 : decode cL_law 530 = .ok (.iconst 2, 1) := by decide +kernel
theorem dL_law_531 : decode cL_law 531 = .ok (.iadd, 1) := by decide +kernel
theorem dL_law_532 : decode cL_law 532 = .ok (.iaload, 1) := by decide +kernel
theorem dL_law_533 : decode cL_law 533 = .ok (.invokevirtual 76, 3) := by decide +kernel
theorem dL_law_536 : decode cL_law 536 = .ok (.if_icmp .eq 186, 3) := by decide +kernel
theorem dL_law_539 : decode cL_law 539 = .ok (.iconst 0, 1) := by decide +kernel
theorem dL_law_540 : decode cL_law 540 = .ok (.ireturn, 1) := by decide +kernel
theorem dL_law_541 : decode cL_law 541 = .ok (.aload_n 1, 1) := by decide +kernel
theorem dL_law_542 : decode cL_law 542 = .ok (.aload_n 0, 1) := by decide +kernel
theorem dL_law_543 : decode cL_law 543 = .ok (.iload_n 3, 1) := by decide +kernel
theorem dL_law_544 : decode cL_law 544 = .ok (.iconst 1, 1) := by decide +kernel
theorem dL_law_545 : decode cL_law 545 = .ok (.iadd, 1) := by decide +kernel
theorem dL_law_546 : decode cL_law 546 = .ok (.iaload, 1) := by decide +kernel
theorem dL_law_547 : decode cL_law 547 = .ok (.aload_n 0, 1) := by decide +kernel
theorem dL_law_548 : decode cL_law 548 = .ok (.iload_n 3, 1) := by decide +kernel
theorem dL_law_549 : decode cL_law 549 = .ok (.iconst 2, 1) := by decide +kernel
theorem dL_law_550 : decode cL_law 550 = .ok (.iadd, 1) := by decide +kernel
theorem dL_law_551 : decode cL_law 551 = .ok (.iaload, 1) := by decide +kernel
theorem dL_law_552 : decode cL_law 552 = .ok (.invokevirtual 77, 3) := by decide +kernel
theorem dL_law_555 : decode cL_law 555 = .ok (.aload_n 2, 1) := by decide +kernel
theorem dL_law_556 : decode cL_law 556 = .ok (.aload_n 0, 1) := by decide +kernel
theorem dL_law_557 : decode cL_law 557 = .ok (.iload_n 3, 1) := by decide +kernel
theorem dL_law_558 : decode cL_law 558 = .ok (.iconst 1, 1) := by decide +kernel
theorem dL_law_559 : decode cL_law 559 = .ok (.iadd, 1) := by decide +kernel
theorem dL_law_560 : decode cL_law 560 = .ok (.iaload, 1) := by decide +kernel
theorem dL_law_561 : decode cL_law 561 = .ok (.aload_n 0, 1) := by decide +kernel
theorem dL_law_562 : decode cL_law 562 = .ok (.iload_n 3, 1) := by decide +kernel
theorem dL_law_563 : decode cL_law 563 = .ok (.iconst 2, 1) := by decide +kernel
theorem dL_law_564 : decode cL_law 564 = .ok (.iadd, 1) := by decide +kernel
theorem dL_law_565 : decode cL_law 565 = .ok (.iaload, 1) := by decide +kernel
theorem dL_law_566 : decode cL_law 566 = .ok (.invokevirtual 80, 3) := by decide +kernel
theorem dL_law_569 : decode cL_law 569 = .ok (.if_icmp .eq 153, 3) := by decide +kernel
theorem dL_law_572 : decode cL_law 572 = .ok (.iconst 0, 1) := by decide +kernel
theorem dL_law_573 : decode cL_law 573 = .ok (.ireturn, 1) := by decide +kernel
theorem dL_law_574 : decode cL_law 574 = .ok (.aload_n 1, 1) := by decide +kernel
theorem dL_law_575 : decode cL_law 575 = .ok (.aload_n 0, 1) := by decide +kernel
theorem dL_law_576 : decode cL_law 576 = .ok (.iload_n 3, 1) := by decide +kernel
theorem dL_law_577 : decode cL_law 577 = .ok (.iconst 1, 1) := by decide +kernel
theorem dL_law_578 : decode cL_law 578 = .ok (.iadd, 1) := by decide +kernel
theorem dL_law_579 : decode cL_law 579 = .ok (.iaload, 1) := by decide +kernel
theorem dL_law_580 : decode cL_law 580 = .ok (.invokevirtual 81, 3) := by decide +kernel
theorem dL_law_583 : decode cL_law 583 = .ok (.aload_n 2, 1) := by decide +kernel
theorem dL_law_584 : decode cL_law 584 = .ok (.aload_n 0, 1) := by decide +kernel
theorem dL_law_585 : decode cL_law 585 = .ok (.iload_n 3, 1) := by decide +kernel
theorem dL_law_586 : decode cL_law 586 = .ok (.iconst 1, 1) := by decide +kernel
theorem dL_law_587 : decode cL_law 587 = .ok (.iadd, 1) := by decide +kernel
theorem dL_law_588 : decode cL_law 588 = .ok (.iaload, 1) := by decide +kernel
theorem dL_law_589 : decode cL_law 589 = .ok (.invokevirtual 84, 3) := by decide +kernel
theorem dL_law_592 : decode cL_law 592 = .ok (.if_icmp .eq 130, 3) := by decide +kernel
theorem dL_law_595 : decode cL_law 595 = .ok (.iconst 0, 1) := by decide +kernel
theorem dL_law_596 : decode cL_law 596 = .ok (.ireturn, 1) := by decide +kernel
theorem dL_law_597 : decode cL_law 597 = .ok (.aload_n 1, 1) := by decide +kernel
theorem dL_law_598 : decode cL_law 598 = .ok (.aload_n 0, 1) := by decide +kernel
theorem dL_law_599 : decode cL_law 599 = .ok (.iload_n 3, 1) := by decide +kernel
theorem dL_law_600 : decode cL_law 600 = .ok (.iconst 1, 1) := by decide +kernel
theorem dL_law_601 : decode cL_law 601 = .ok (.iadd, 1) := by decide +kernel
theorem dL_law_602 : decode cL_law 602 = .ok (.iaload, 1) := by decide +kernel
theorem dL_law_603 : decode cL_law 603 = .ok (.invokevirtual 85, 3) := by decide +kernel
theorem dL_law_606 : decode cL_law 606 = .ok (.aload_n 2, 1) := by decide +kernel
theorem dL_law_607 : decode cL_law 607 = .ok (.aload_n 0, 1) := by decide +kernel
theorem dL_law_608 : decode cL_law 608 = .ok (.iload_n 3, 1) := by decide +kernel
theorem dL_law_609 : decode cL_law 609 = .ok (.iconst 1, 1) := by decide +kernel
theorem dL_law_610 : decode cL_law 610 = .ok (.iadd, 1) := by decide +kernel
theorem dL_law_611 : decode cL_law 611 = .ok (.iaload, 1) := by decide +kernel
theorem dL_law_612 : decode cL_law 612 = .ok (.invokevirtual 88, 3) := by decide +kernel
theorem dL_law_615 : decode cL_law 615 = .ok (.if_icmp .eq 107, 3) := by decide +kernel
theorem dL_law_618 : decode cL_law 618 = .ok (.iconst 0, 1) := by decide +kernel
theorem dL_law_619 : decode cL_law 619 = .ok (.ireturn, 1) := by decide +kernel
theorem dL_law_620 : decode cL_law 620 = .ok (.aload_n 1, 1) := by decide +kernel
theorem dL_law_621 : decode cL_law 621 = .ok (.aload_n 0, 1) := by decide +kernel
theorem dL_law_622 : decode cL_law 622 = .ok (.iload_n 3, 1) := by decide +kernel
theorem dL_law_623 : decode cL_law 623 = .ok (.iconst 1, 1) := by decide +kernel
theorem dL_law_624 : decode cL_law 624 = .ok (.iadd, 1) := by decide +kernel
theorem dL_law_625 : decode cL_law 625 = .ok (.iaload, 1) := by decide +kernel
theorem dL_law_626 : decode cL_law 626 = .ok (.aload_n 0, 1) := by decide +kernel
theorem dL_law_627 : decode cL_law 627 = .ok (.iload_n 3, 1) := by decide +kernel
theorem dL_law_628 : decode cL_law 628 = .ok (.iconst 2, 1) := by decide +kernel
theorem dL_law_629 : decode cL_law 629 = .ok (.iadd, 1) := by decide +kernel
theorem dL_law_630 : decode cL_law 630 = .ok (.iaload, 1) := by decide +kernel
theorem dL_law_631 : decode cL_law 631 = .ok (.invokevirtual 89, 3) := by decide +kernel
theorem dL_law_634 : decode cL_law 634 = .ok (.aload_n 2, 1) := by decide +kernel
theorem dL_law_635 : decode cL_law 635 = .ok (.aload_n 0, 1) := by decide +kernel
theorem dL_law_636 : decode cL_law 636 = .ok (.iload_n 3, 1) := by decide +kernel
theorem dL_law_637 : decode cL_law 637 = .ok (.iconst 1, 1) := by decide +kernel
theorem dL_law_638 : decode cL_law 638 = .ok (.iadd, 1) := by decide +kernel
theorem dL_law_639 : decode cL_law 639 = .ok (.iaload, 1) := by decide +kernel
theorem dL_law_640 : decode cL_law 640 = .ok (.aload_n 0, 1) := by decide +kernel
theorem dL_law_641 : decode cL_law 641 = .ok (.iload_n 3, 1) := by decide +kernel
theorem dL_law_642 : decode cL_law 642 = .ok (.iconst 2, 1) := by decide +kernel
theorem dL_law_643 : decode cL_law 643 = .ok (.iadd, 1) := by decide +kernel
theorem dL_law_644 : decode cL_law 644 = .ok (.iaload, 1) := by decide +kernel
theorem dL_law_645 : decode cL_law 645 = .ok (.invokevirtual 92, 3) := by decide +kernel
theorem dL_law_648 : decode cL_law 648 = .ok (.if_icmp .eq 74, 3) := by decide +kernel
theorem dL_law_651 : decode cL_law 651 = .ok (.iconst 0, 1) := by decide +kernel
theorem dL_law_652 : decode cL_law 652 = .ok (.ireturn, 1) := by decide +kernel
theorem dL_law_653 : decode cL_law 653 = .ok (.aload_n 1, 1) := by decide +kernel
theorem dL_law_654 : decode cL_law 654 = .ok (.aload_n 0, 1) := by decide +kernel
theorem dL_law_655 : decode cL_law 655 = .ok (.iload_n 3, 1) := by decide +kernel
theorem dL_law_656 : decode cL_law 656 = .ok (.iconst 1, 1) := by decide +kernel
theorem dL_law_657 : decode cL_law 657 = .ok (.iadd, 1) := by decide +kernel
theorem dL_law_658 : decode cL_law 658 = .ok (.iaload, 1) := by decide +kernel
theorem dL_law_659 : decode cL_law 659 = .ok (.invokevirtual 93, 3) := by decide +kernel
theorem dL_law_662 : decode cL_law 662 = .ok (.aload_n 2, 1) := by decide +kernel
theorem dL_law_663 : decode cL_law 663 = .ok (.aload_n 0, 1) := by decide +kernel
theorem dL_law_664 : decode cL_law 664 = .ok (.iload_n 3, 1) := by decide +kernel
theorem dL_law_665 : decode cL_law 665 = .ok (.iconst 1, 1) := by decide +kernel
theorem dL_law_666 : decode cL_law 666 = .ok (.iadd, 1) := by decide +kernel
theorem dL_law_667 : decode cL_law 667 = .ok (.iaload, 1) := by decide +kernel
theorem dL_law_668 : decode cL_law 668 = .ok (.invokevirtual 96, 3) := by decide +kernel
theorem dL_law_671 : decode cL_law 671 = .ok (.if_icmp .eq 51, 3) := by decide +kernel
theorem dL_law_674 : decode cL_law 674 = .ok (.iconst 0, 1) := by decide +kernel
theorem dL_law_675 : decode cL_law 675 = .ok (.ireturn, 1) := by decide +kernel
theorem dL_law_676 : decode cL_law 676 = .ok (.aload_n 1, 1) := by decide +kernel
theorem dL_law_677 : decode cL_law 677 = .ok (.aload_n 0, 1) := by decide +kernel
theorem dL_law_678 : decode cL_law 678 = .ok (.iload_n 3, 1) := by decide +kernel
theorem dL_law_679 : decode cL_law 679 = .ok (.iconst 1, 1) := by decide +kernel
theorem dL_law_680 : decode cL_law 680 = .ok (.iadd, 1) := by decide +kernel
theorem dL_law_681 : decode cL_law 681 = .ok (.iaload, 1) := by decide +kernel
theorem dL_law_682 : decode cL_law 682 = .ok (.invokevirtual 97, 3) := by decide +kernel
theorem dL_law_685 : decode cL_law 685 = .ok (.aload_n 2, 1) := by decide +kernel
theorem dL_law_686 : decode cL_law 686 = .ok (.aload_n 0, 1) := by decide +kernel
theorem dL_law_687 : decode cL_law 687 = .ok (.iload_n 3, 1) := by decide +kernel
theorem dL_law_688 : decode cL_law 688 = .ok (.iconst 1, 1) := by decide +kernel
theorem dL_law_689 : decode cL_law 689 = .ok (.iadd, 1) := by decide +kernel
theorem dL_law_690 : decode cL_law 690 = .ok (.iaload, 1) := by decide +kernel
theorem dL_law_691 : decode cL_law 691 = .ok (.invokevirtual 100, 3) := by decide +kernel
theorem dL_law_694 : decode cL_law 694 = .ok (.if_icmp .eq 28, 3) := by decide +kernel
theorem dL_law_697 : decode cL_law 697 = .ok (.iconst 0, 1) := by decide +kernel
theorem dL_law_698 : decode cL_law 698 = .ok (.ireturn, 1) := by decide +kernel
theorem dL_law_699 : decode cL_law 699 = .ok (.aload_n 1, 1) := by decide +kernel
theorem dL_law_700 : decode cL_law 700 = .ok (.aload_n 0, 1) := by decide +kernel
theorem dL_law_701 : decode cL_law 701 = .ok (.iload_n 3, 1) := by decide +kernel
theorem dL_law_702 : decode cL_law 702 = .ok (.iconst 1, 1) := by decide +kernel
theorem dL_law_703 : decode cL_law 703 = .ok (.iadd, 1) := by decide +kernel
theorem dL_law_704 : decode cL_law 704 = .ok (.iaload, 1) := by decide +kernel
theorem dL_law_705 : decode cL_law 705 = .ok (.invokevirtual 101, 3) := by decide +kernel
theorem dL_law_708 : decode cL_law 708 = .ok (.aload_n 2, 1) := by decide +kernel
theorem dL_law_709 : decode cL_law 709 = .ok (.aload_n 0, 1) := by decide +kernel
theorem dL_law_710 : decode cL_law 710 = .ok (.iload_n 3, 1) := by decide +kernel
theorem dL_law_711 : decode cL_law 711 = .ok (.iconst 1, 1) := by decide +kernel
theorem dL_law_712 : decode cL_law 712 = .ok (.iadd, 1) := by decide +kernel
theorem dL_law_713 : decode cL_law 713 = .ok (.iaload, 1) := by decide +kernel
theorem dL_law_714 : decode cL_law 714 = .ok (.invokevirtual 104, 3) := by decide +kernel
theorem dL_law_717 : decode cL_law 717 = .ok (.if_icmp .eq 5, 3) := by decide +kernel
theorem dL_law_720 : decode cL_law 720 = .ok (.iconst 0, 1) := by decide +kernel
theorem dL_law_721 : decode cL_law 721 = .ok (.ireturn, 1) := by decide +kernel
theorem dL_law_722 : decode cL_law 722 = .ok (.iinc 3 4, 3) := by decide +kernel
theorem dL_law_725 : decode cL_law 725 = .ok (.goto (-707), 3) := by decide +kernel
theorem dL_law_728 : decode cL_law 728 = .ok (.iconst 1, 1) := by decide +kernel
theorem dL_law_729 : decode cL_law 729 = .ok (.ireturn, 1) := by decide +kernel
end
section
set_option maxRecDepth 100000
/-! java/lang/Object -/
set_option maxRecDepth 100000
def RJ0 : String := "java/lang/Object"
abbrev cJ0_init : ByteArray := object_method_1_code
def yJ0_init : MethodName := ⟨RJ0, "<init>", "()V"⟩
theorem dJ0_init_0 : decode cJ0_init 0 = .ok (.return_, 1) := by decide +kernel
theorem q27 : (Jvm.Cond.instanceMethod ({ cls := "java/lang/Object", name := "<init>", desc := "()V" } : Jvm.MethodName)) ∈ lw_all := lw_g (lw_at lw_m1 9 rfl) rfl
theorem q28 : (Jvm.Cond.code ({ cls := "java/lang/Object", name := "<init>", desc := "()V" } : Jvm.MethodName) object_method_1_code (1 : Nat) (Option.none : Option Jvm.ClassFile.FieldType)) ∈ lw_all := lw_g (lw_at lw_m1 10 rfl) rfl

theorem q72 : (Jvm.Cond.arrayClass Jvm.ClassFile.FieldType.int) ∈ lw_all := lw_g (lw_at lw_m1 54 rfl) rfl
set_option maxRecDepth 100000
theorem q73 : (Jvm.Cond.arrayClass Jvm.ClassFile.FieldType.boolean) ∈ lw_all := lw_g (lw_at lw_m1 55 rfl) rfl

theorem q18 : (Jvm.Cond.initialized "SyntheticChainLaw") ∈ lw_all := lw_g (lw_at lw_m1 0 rfl) rfl
set_option maxRecDepth 100000
theorem q21 : (Jvm.Cond.classLink "SyntheticChainLaw" (7 : Nat) "SyntheticChain") ∈ lw_all := lw_g (lw_at lw_m1 3 rfl) rfl
theorem q23 : (Jvm.Cond.methodLink "SyntheticChainLaw" (9 : Nat) ({ cls := "SyntheticChain", name := "<init>", desc := "()V" } : Jvm.MethodName)) ∈ lw_all := lw_g (lw_at lw_m1 5 rfl) rfl
theorem q74 : (Jvm.Cond.methodLink "SyntheticChainLaw" (13 : Nat) ({ cls := "SyntheticChain", name := "put", desc := "(II)I" } : Jvm.MethodName)) ∈ lw_all := lw_g (lw_at lw_m1 56 rfl) rfl
theorem q88 : (Jvm.Cond.methodLink "SyntheticChainLaw" (18 : Nat) ({ cls := "SyntheticChain", name := "delete", desc := "(I)I" } : Jvm.MethodName)) ∈ lw_all := lw_g (lw_at lw_m1 70 rfl) rfl
theorem q92 : (Jvm.Cond.methodLink "SyntheticChainLaw" (23 : Nat) ({ cls := "SyntheticChain", name := "rename", desc := "(II)I" } : Jvm.MethodName)) ∈ lw_all := lw_g (lw_at lw_m1 74 rfl) rfl
theorem q96 : (Jvm.Cond.methodLink "SyntheticChainLaw" (27 : Nat) ({ cls := "SyntheticChain", name := "rewrite", desc := "(III)I" } : Jvm.MethodName)) ∈ lw_all := lw_g (lw_at lw_m1 78 rfl) rfl
theorem q100 : (Jvm.Cond.methodLink "SyntheticChainLaw" (32 : Nat) ({ cls := "SyntheticChain", name := "advance", desc := "(I)I" } : Jvm.MethodName)) ∈ lw_all := lw_g (lw_at lw_m1 82 rfl) rfl
theorem q104 : (Jvm.Cond.methodLink "SyntheticChainLaw" (36 : Nat) ({ cls := "SyntheticChain", name := "take", desc := "(I)I" } : Jvm.MethodName)) ∈ lw_all := lw_g (lw_at lw_m1 86 rfl) rfl
theorem q117 : (Jvm.Cond.methodLink "SyntheticChainLaw" (40 : Nat) ({ cls := "SyntheticChain", name := "restore", desc := "(I)I" } : Jvm.MethodName)) ∈ lw_all := lw_g (lw_at lw_m1 99 rfl) rfl
theorem q137 : (Jvm.Cond.methodLink "SyntheticChainLaw" (44 : Nat) ({ cls := "SyntheticChain", name := "restoreFile", desc := "(II)I" } : Jvm.MethodName)) ∈ lw_all := lw_g (lw_at lw_m1 119 rfl) rfl
theorem q141 : (Jvm.Cond.methodLink "SyntheticChainLaw" (48 : Nat) ({ cls := "SyntheticChain", name := "pin", desc := "(II)I" } : Jvm.MethodName)) ∈ lw_all := lw_g (lw_at lw_m1 123 rfl) rfl
theorem q145 : (Jvm.Cond.methodLink "SyntheticChainLaw" (52 : Nat) ({ cls := "SyntheticChain", name := "forget", desc := "(I)I" } : Jvm.MethodName)) ∈ lw_all := lw_g (lw_at lw_m1 127 rfl) rfl
theorem q153 : (Jvm.Cond.methodLink "SyntheticChainLaw" (56 : Nat) ({ cls := "SyntheticChain", name := "prune", desc := "(I)I" } : Jvm.MethodName)) ∈ lw_all := lw_g (lw_at lw_m1 135 rfl) rfl
theorem q161 : (Jvm.Cond.methodLink "SyntheticChainLaw" (60 : Nat) ({ cls := "SyntheticChain", name := "points", desc := "()I" } : Jvm.MethodName)) ∈ lw_all := lw_g (lw_at lw_m1 143 rfl) rfl
theorem q165 : (Jvm.Cond.methodLink "SyntheticChainLaw" (65 : Nat) ({ cls := "SyntheticChain", name := "dayOf", desc := "(I)I" } : Jvm.MethodName)) ∈ lw_all := lw_g (lw_at lw_m1 147 rfl) rfl
theorem q169 : (Jvm.Cond.methodLink "SyntheticChainLaw" (69 : Nat) ({ cls := "SyntheticChain", name := "pinned", desc := "(I)I" } : Jvm.MethodName)) ∈ lw_all := lw_g (lw_at lw_m1 151 rfl) rfl
theorem q173 : (Jvm.Cond.methodLink "SyntheticChainLaw" (73 : Nat) ({ cls := "SyntheticChain", name := "there", desc := "(II)I" } : Jvm.MethodName)) ∈ lw_all := lw_g (lw_at lw_m1 155 rfl) rfl
theorem q177 : (Jvm.Cond.methodLink "SyntheticChainLaw" (77 : Nat) ({ cls := "SyntheticChain", name := "content", desc := "(II)I" } : Jvm.MethodName)) ∈ lw_all := lw_g (lw_at lw_m1 159 rfl) rfl
theorem q181 : (Jvm.Cond.methodLink "SyntheticChainLaw" (81 : Nat) ({ cls := "SyntheticChain", name := "liveThere", desc := "(I)I" } : Jvm.MethodName)) ∈ lw_all := lw_g (lw_at lw_m1 163 rfl) rfl
theorem q185 : (Jvm.Cond.methodLink "SyntheticChainLaw" (85 : Nat) ({ cls := "SyntheticChain", name := "live", desc := "(I)I" } : Jvm.MethodName)) ∈ lw_all := lw_g (lw_at lw_m1 167 rfl) rfl
theorem q189 : (Jvm.Cond.methodLink "SyntheticChainLaw" (89 : Nat) ({ cls := "SyntheticChain", name := "differing", desc := "(II)I" } : Jvm.MethodName)) ∈ lw_all := lw_g (lw_at lw_m1 171 rfl) rfl
theorem q197 : (Jvm.Cond.methodLink "SyntheticChainLaw" (93 : Nat) ({ cls := "SyntheticChain", name := "changedSince", desc := "(I)I" } : Jvm.MethodName)) ∈ lw_all := lw_g (lw_at lw_m1 179 rfl) rfl
theorem q201 : (Jvm.Cond.methodLink "SyntheticChainLaw" (97 : Nat) ({ cls := "SyntheticChain", name := "versions", desc := "(I)I" } : Jvm.MethodName)) ∈ lw_all := lw_g (lw_at lw_m1 183 rfl) rfl
theorem q205 : (Jvm.Cond.methodLink "SyntheticChainLaw" (101 : Nat) ({ cls := "SyntheticChain", name := "sum", desc := "(I)I" } : Jvm.MethodName)) ∈ lw_all := lw_g (lw_at lw_m1 187 rfl) rfl
theorem q209 : (Jvm.Cond.classLink "SyntheticChainLaw" (10 : Nat) "SyntheticChainModel") ∈ lw_all := lw_g (lw_at lw_m1 191 rfl) rfl
theorem q211 : (Jvm.Cond.methodLink "SyntheticChainLaw" (12 : Nat) ({ cls := "SyntheticChainModel", name := "<init>", desc := "()V" } : Jvm.MethodName)) ∈ lw_all := lw_g (lw_at lw_m1 193 rfl) rfl
theorem q243 : (Jvm.Cond.methodLink "SyntheticChainLaw" (17 : Nat) ({ cls := "SyntheticChainModel", name := "put", desc := "(II)I" } : Jvm.MethodName)) ∈ lw_all := lw_g (lw_at lw_m1 225 rfl) rfl
theorem q251 : (Jvm.Cond.methodLink "SyntheticChainLaw" (22 : Nat) ({ cls := "SyntheticChainModel", name := "delete", desc := "(I)I" } : Jvm.MethodName)) ∈ lw_all := lw_g (lw_at lw_m1 233 rfl) rfl
theorem q255 : (Jvm.Cond.methodLink "SyntheticChainLaw" (26 : Nat) ({ cls := "SyntheticChainModel", name := "rename", desc := "(II)I" } : Jvm.MethodName)) ∈ lw_all := lw_g (lw_at lw_m1 237 rfl) rfl
theorem q259 : (Jvm.Cond.methodLink "SyntheticChainLaw" (31 : Nat) ({ cls := "SyntheticChainModel", name := "rewrite", desc := "(III)I" } : Jvm.MethodName)) ∈ lw_all := lw_g (lw_at lw_m2 1 rfl) rfl
theorem q263 : (Jvm.Cond.methodLink "SyntheticChainLaw" (35 : Nat) ({ cls := "SyntheticChainModel", name := "advance", desc := "(I)I" } : Jvm.MethodName)) ∈ lw_all := lw_g (lw_at lw_m2 5 rfl) rfl
theorem q267 : (Jvm.Cond.methodLink "SyntheticChainLaw" (39 : Nat) ({ cls := "SyntheticChainModel", name := "take", desc := "(I)I" } : Jvm.MethodName)) ∈ lw_all := lw_g (lw_at lw_m2 9 rfl) rfl
theorem q271 : (Jvm.Cond.methodLink "SyntheticChainLaw" (43 : Nat) ({ cls := "SyntheticChainModel", name := "restore", desc := "(I)I" } : Jvm.MethodName)) ∈ lw_all := lw_g (lw_at lw_m2 13 rfl) rfl
theorem q287 : (Jvm.Cond.methodLink "SyntheticChainLaw" (47 : Nat) ({ cls := "SyntheticChainModel", name := "restoreFile", desc := "(II)I" } : Jvm.MethodName)) ∈ lw_all := lw_g (lw_at lw_m2 29 rfl) rfl
theorem q291 : (Jvm.Cond.methodLink "SyntheticChainLaw" (51 : Nat) ({ cls := "SyntheticChainModel", name := "pin", desc := "(II)I" } : Jvm.MethodName)) ∈ lw_all := lw_g (lw_at lw_m2 33 rfl) rfl
theorem q295 : (Jvm.Cond.methodLink "SyntheticChainLaw" (55 : Nat) ({ cls := "SyntheticChainModel", name := "forget", desc := "(I)I" } : Jvm.MethodName)) ∈ lw_all := lw_g (lw_at lw_m2 37 rfl) rfl
theorem q303 : (Jvm.Cond.methodLink "SyntheticChainLaw" (59 : Nat) ({ cls := "SyntheticChainModel", name := "prune", desc := "(I)I" } : Jvm.MethodName)) ∈ lw_all := lw_g (lw_at lw_m2 45 rfl) rfl
theorem q315 : (Jvm.Cond.methodLink "SyntheticChainLaw" (64 : Nat) ({ cls := "SyntheticChainModel", name := "points", desc := "()I" } : Jvm.MethodName)) ∈ lw_all := lw_g (lw_at lw_m2 57 rfl) rfl
theorem q319 : (Jvm.Cond.methodLink "SyntheticChainLaw" (68 : Nat) ({ cls := "SyntheticChainModel", name := "dayOf", desc := "(I)I" } : Jvm.MethodName)) ∈ lw_all := lw_g (lw_at lw_m2 61 rfl) rfl
theorem q323 : (Jvm.Cond.methodLink "SyntheticChainLaw" (72 : Nat) ({ cls := "SyntheticChainModel", name := "pinned", desc := "(I)I" } : Jvm.MethodName)) ∈ lw_all := lw_g (lw_at lw_m2 65 rfl) rfl
theorem q327 : (Jvm.Cond.methodLink "SyntheticChainLaw" (76 : Nat) ({ cls := "SyntheticChainModel", name := "there", desc := "(II)I" } : Jvm.MethodName)) ∈ lw_all := lw_g (lw_at lw_m2 69 rfl) rfl
theorem q331 : (Jvm.Cond.methodLink "SyntheticChainLaw" (80 : Nat) ({ cls := "SyntheticChainModel", name := "content", desc := "(II)I" } : Jvm.MethodName)) ∈ lw_all := lw_g (lw_at lw_m2 73 rfl) rfl
theorem q335 : (Jvm.Cond.methodLink "SyntheticChainLaw" (84 : Nat) ({ cls := "SyntheticChainModel", name := "liveThere", desc := "(I)I" } : Jvm.MethodName)) ∈ lw_all := lw_g (lw_at lw_m2 77 rfl) rfl
theorem q339 : (Jvm.Cond.methodLink "SyntheticChainLaw" (88 : Nat) ({ cls := "SyntheticChainModel", name := "live", desc := "(I)I" } : Jvm.MethodName)) ∈ lw_all := lw_g (lw_at lw_m2 81 rfl) rfl
theorem q343 : (Jvm.Cond.methodLink "SyntheticChainLaw" (92 : Nat) ({ cls := "SyntheticChainModel", name := "differing", desc := "(II)I" } : Jvm.MethodName)) ∈ lw_all := lw_g (lw_at lw_m2 85 rfl) rfl
theorem q351 : (Jvm.Cond.methodLink "SyntheticChainLaw" (96 : Nat) ({ cls := "SyntheticChainModel", name := "changedSince", desc := "(I)I" } : Jvm.MethodName)) ∈ lw_all := lw_g (lw_at lw_m2 93 rfl) rfl
theorem q355 : (Jvm.Cond.methodLink "SyntheticChainLaw" (100 : Nat) ({ cls := "SyntheticChainModel", name := "versions", desc := "(I)I" } : Jvm.MethodName)) ∈ lw_all := lw_g (lw_at lw_m2 97 rfl) rfl
theorem q359 : (Jvm.Cond.methodLink "SyntheticChainLaw" (104 : Nat) ({ cls := "SyntheticChainModel", name := "sum", desc := "(I)I" } : Jvm.MethodName)) ∈ lw_all := lw_g (lw_at lw_m2 101 rfl) rfl
end
section
/-! The judgement of a walk with all that is fixed in one tuple E; a row an instruction -/
set_option maxRecDepth 100000
abbrev vwCl : List vw_C := [(RX0, TX0, 14), (RX1, TX1, 9)]
abbrev je_E : Type := Program × Launch × Env × Room × State × MethodId × Array Value × List Frame × Method × Code × va_G × (Nat → Prop) × (State → Prop) × Nat × Nat
abbrev je_p (E : je_E) : Program := E.1
abbrev je_l (E : je_E) : Launch := E.2.1
abbrev je_e (E : je_E) : Env := E.2.2.1
abbrev je_R (E : je_E) : Room := E.2.2.2.1
abbrev je_s (E : je_E) : State := E.2.2.2.2.1
abbrev je_m (E : je_E) : MethodId := E.2.2.2.2.2.1
abbrev je_a (E : je_E) : Array Value := E.2.2.2.2.2.2.1
abbrev je_b (E : je_E) : List Frame := E.2.2.2.2.2.2.2.1
abbrev je_h (E : je_E) : Method := E.2.2.2.2.2.2.2.2.1
abbrev je_c (E : je_E) : Code := E.2.2.2.2.2.2.2.2.2.1
abbrev je_D (E : je_E) : va_G := E.2.2.2.2.2.2.2.2.2.2.1
abbrev je_A (E : je_E) : Nat → Prop := E.2.2.2.2.2.2.2.2.2.2.2.1
abbrev je_Q (E : je_E) : State → Prop := E.2.2.2.2.2.2.2.2.2.2.2.2.1
abbrev je_k (E : je_E) : Nat := E.2.2.2.2.2.2.2.2.2.2.2.2.2.1
abbrev je_n (E : je_E) : Nat := E.2.2.2.2.2.2.2.2.2.2.2.2.2.2
/-- the walk's judgement: for every heap that holds the world w, the frame at pc with these locals and this stack comes to its end -/
def jw_J (E : je_E) (nL : Nat) (w : va_W) (pc : Nat) (lv : List (Nat × Value)) (st : List Value) : Prop :=
  ∀ (H : Heap) (locs : List Loc) (ls : Array Slot), va_P (je_D E) vwCl w H → va_D (je_A E) w → va_S (je_A E) (je_s E).heap H locs → lv_has ls nL lv → W (je_p E) (je_l E) (je_e E) (je_R E) (je_s E) (je_m E) (je_a E) (je_b E) (je_h E) (je_c E) H locs (je_k E) (je_n E) (je_Q E) (F0 (je_m E) pc ls st)
/-- what is fixed in a walk -/
def jw_C (E : je_E) (cc : ByteArray) (nL : Nat) (own : String) (tys : List (ClassId × FieldType)) (lev : Nat) : Prop :=
  (je_p E).tables.exec = Jvm.exec ∧ (je_c E).code = cc ∧ (je_c E).maxLocals = nL ∧ (je_s E).vm.findClass own = some (je_m E).cls ∧ (∀ w ∈ lw_all, w.before (je_a E) (je_s E) = true) ∧ va_K (je_D E) vwCl tys (je_s E) ∧ (∀ q, (je_s E).heap.size ≤ q → je_A E q) ∧ (lev ≤ (je_R E).frames ∧ 26 * lev ≤ (je_R E).locals) ∧ (je_k E ≤ (je_R E).cells ∧ je_n E ≤ (je_R E).slots)
/-- a local's value -/
def jr_gt : List (Nat × Value) → Nat → Option Value
  | [], _ => none
  | q :: r, i => cond (Nat.beq q.1 i) (some q.2) (jr_gt r i)
/-- a local stored -/
def jr_st : List (Nat × Value) → Nat → Value → List (Nat × Value)
  | [], i, v => [(i, v)]
  | q :: r, i, v => cond (Nat.beq q.1 i) ((i, v) :: r.filter (fun q => !(Nat.beq q.1 i))) (q :: jr_st r i v)
/-- all of one slot -/
def jr_one : List (Nat × Value) → Bool
  | [] => true
  | q :: r => Nat.beq q.2.category 1 && jr_one r
theorem jr_gt_mem : ∀ {lv : List (Nat × Value)} {i : Nat} {v : Value}, jr_gt lv i = some v → (i, v) ∈ lv := by
  intro lv
  induction lv with
  | nil => intro i v h; simp [jr_gt] at h
  | cons q r ih =>
    intro i v h
    unfold jr_gt at h
    cases hq : Nat.beq q.1 i with
    | true =>
      rw [hq] at h
      have h2 : some q.2 = some v := h
      have h3 : q.1 = i := Nat.eq_of_beq_eq_true hq
      rw [← Option.some.inj h2, ← h3]
      exact List.mem_cons_self
    | false =>
      rw [hq] at h
      exact List.mem_cons_of_mem _ (ih h)
theorem jr_st_mem : ∀ {lv : List (Nat × Value)} {i : Nat} {v : Value} {q : Nat × Value}, q ∈ jr_st lv i v → q = (i, v) ∨ (q ∈ lv ∧ q.1 ≠ i) := by
  intro lv
  induction lv with
  | nil => intro i v q h; left; simpa [jr_st] using h
  | cons a r ih =>
    intro i v q h
    unfold jr_st at h
    cases hq : Nat.beq a.1 i with
    | true =>
      rw [hq] at h
      rcases List.mem_cons.mp h with h | h
      · exact Or.inl h
      · obtain ⟨h1, h2⟩ := List.mem_filter.mp h
        refine Or.inr ⟨List.mem_cons_of_mem _ h1, fun e => ?_⟩
        rw [e, Nat.beq_refl] at h2
        cases h2
    | false =>
      rw [hq] at h
      rcases List.mem_cons.mp h with h | h
      · refine Or.inr ⟨by rw [h]; exact List.mem_cons_self, fun e => ?_⟩
        rw [← h, e, Nat.beq_refl] at hq
        cases hq
      · rcases ih h with h | ⟨h1, h2⟩
        · exact Or.inl h
        · exact Or.inr ⟨List.mem_cons_of_mem _ h1, h2⟩
theorem jr_one_mem : ∀ {lv : List (Nat × Value)}, jr_one lv = true → ∀ q ∈ lv, q.2.category = 1 := by
  intro lv
  induction lv with
  | nil => intro _ q h; cases h
  | cons a r ih =>
    intro h q hq
    unfold jr_one at h
    rw [Bool.and_eq_true] at h
    rcases List.mem_cons.mp hq with e | e
    · rw [e]; exact Nat.eq_of_beq_eq_true h.1
    · exact ih h.2 q e
theorem jr_at {ls : Array Slot} {nL : Nat} {lv : List (Nat × Value)} {i : Nat} {v : Value} (h : lv_has ls nL lv) (hg : jr_gt lv i = some v) : ls[i]? = some (.val v) := h.2.2 (i, v) (jr_gt_mem hg)
theorem jr_stored {ls : Array Slot} {nL : Nat} {lv : List (Nat × Value)} {i : Nat} {v : Value} (ho : jr_one lv = true) (h : lv_has ls nL ((i, v) :: lv.filter (fun q => !(q.1 == i) && !(q.1 + 1 == i && q.2.category == 2)))) : lv_has ls nL (jr_st lv i v) := by
  refine ⟨h.1, h.2.1, fun q hq => ?_⟩
  rcases jr_st_mem hq with e | ⟨e1, e2⟩
  · exact h.2.2 q (by rw [e]; exact List.mem_cons_self)
  · refine h.2.2 q (List.mem_cons_of_mem _ (List.mem_filter.mpr ⟨e1, ?_⟩))
    have hc := jr_one_mem ho q e1
    simp [e2, hc]
section JR
variable {E : je_E} {cc : ByteArray} {nL : Nat} {own : String} {tys : List (ClassId × FieldType)} {lev : Nat} {w : va_W} {pc : Nat} {lv : List (Nat × Value)} {st : List Value}
/-- fewer locals, in any order -/
theorem jr_sub {lv' : List (Nat × Value)} (kk : jw_J E nL w pc lv' st) (hl : lv'.map (fun q => jr_gt lv q.1) = lv'.map (fun q => some q.2)) : jw_J E nL w pc lv st := by
  intro H locs ls hP hD hS h
  refine kk H locs ls hP hD hS ⟨h.1, h.2.1, fun q hq => ?_⟩
  obtain ⟨k, hk⟩ := List.getElem?_of_mem hq
  have h1 : (lv'.map (fun q => jr_gt lv q.1))[k]? = (lv'.map (fun q => some q.2))[k]? := by rw [hl]
  rw [List.getElem?_map, List.getElem?_map, hk] at h1
  exact jr_at h (Option.some.inj h1)
/-- another name for the number on top -/
theorem jr_top {x y : Int32} (e : x = y) (kk : jw_J E nL w pc lv (.int y :: st)) : jw_J E nL w pc lv (.int x :: st) := by rw [e]; exact kk
theorem jr_iconst (C : jw_C E cc nL own tys lev) {n : Int} {v : Int32} (hd : decode cc pc = .ok (.iconst n, 1)) (hv : Int32.ofInt n = v) (kk : jw_J E nL w (pc + 1) lv (.int v :: st)) : jw_J E nL w pc lv st := fun H locs ls hP hD hS hl => lv_iconst C.1 C.2.1 hd hv (kk H locs ls hP hD hS hl)
theorem jr_bipush (C : jw_C E cc nL own tys lev) {n : Int} {v : Int32} (hd : decode cc pc = .ok (.bipush n, 2)) (hv : (Int8.ofInt n).toInt32 = v) (kk : jw_J E nL w (pc + 2) lv (.int v :: st)) : jw_J E nL w pc lv st := fun H locs ls hP hD hS hl => lv_bipush C.1 C.2.1 hd hv (kk H locs ls hP hD hS hl)
theorem jr_sipush (C : jw_C E cc nL own tys lev) {n : Int} {v : Int32} (hd : decode cc pc = .ok (.sipush n, 3)) (hv : (Int16.ofInt n).toInt32 = v) (kk : jw_J E nL w (pc + 3) lv (.int v :: st)) : jw_J E nL w pc lv st := fun H locs ls hP hD hS hl => lv_sipush C.1 C.2.1 hd hv (kk H locs ls hP hD hS hl)
theorem jr_ldc (C : jw_C E cc nL own tys lev) {index : Nat} {v : Int32} (hc : Cond.constant own index v ∈ lw_all) (hd : decode cc pc = .ok (.ldc index, 2)) (kk : jw_J E nL w (pc + 2) lv (.int v :: st)) : jw_J E nL w pc lv st := fun H locs ls hP hD hS hl => lv_ldc C.1 C.2.1 C.2.2.2.1 (C.2.2.2.2.1 _ hc) hd (kk H locs ls hP hD hS hl)
theorem jr_iload_n (C : jw_C E cc nL own tys lev) {k : Fin 4} {x : Int32} (hd : decode cc pc = .ok (.iload_n k, 1)) (hg : jr_gt lv k.val = some (.int x)) (kk : jw_J E nL w (pc + 1) lv (.int x :: st)) : jw_J E nL w pc lv st := fun H locs ls hP hD hS hl => lv_iload_n C.1 C.2.1 hd rfl (jr_at hl hg) (kk H locs ls hP hD hS hl)
theorem jr_iload (C : jw_C E cc nL own tys lev) {k : Nat} {x : Int32} (hd : decode cc pc = .ok (.iload k, 2)) (hg : jr_gt lv k = some (.int x)) (kk : jw_J E nL w (pc + 2) lv (.int x :: st)) : jw_J E nL w pc lv st := fun H locs ls hP hD hS hl => lv_iload C.1 C.2.1 hd (jr_at hl hg) (kk H locs ls hP hD hS hl)
theorem jr_aload_n (C : jw_C E cc nL own tys lev) {k : Fin 4} {x : Nat} (hd : decode cc pc = .ok (.aload_n k, 1)) (hg : jr_gt lv k.val = some (.ref x)) (kk : jw_J E nL w (pc + 1) lv (.ref x :: st)) : jw_J E nL w pc lv st := fun H locs ls hP hD hS hl => lv_aload_n C.1 C.2.1 hd rfl (jr_at hl hg) (kk H locs ls hP hD hS hl)
theorem jr_istore_n (C : jw_C E cc nL own tys lev) {k : Fin 4} {x : Int32} (hd : decode cc pc = .ok (.istore_n k, 1)) (hn : k.val < nL) (ho : jr_one lv = true) (kk : jw_J E nL w (pc + 1) (jr_st lv k.val (.int x)) st) : jw_J E nL w pc lv (.int x :: st) := fun H locs ls hP hD hS hl => lv_istore_n C.1 C.2.1 hd rfl hl hn rfl (fun ls' hl' => kk H locs ls' hP hD hS (jr_stored ho hl'))
theorem jr_istore (C : jw_C E cc nL own tys lev) {k : Nat} {x : Int32} (hd : decode cc pc = .ok (.istore k, 2)) (hn : k < nL) (ho : jr_one lv = true) (kk : jw_J E nL w (pc + 2) (jr_st lv k (.int x)) st) : jw_J E nL w pc lv (.int x :: st) := fun H locs ls hP hD hS hl => lv_istore C.1 C.2.1 hd hl hn rfl (fun ls' hl' => kk H locs ls' hP hD hS (jr_stored ho hl'))
theorem jr_iincv (C : jw_C E cc nL own tys lev) {i : Nat} {n : Int} {x v : Int32} (hd : decode cc pc = .ok (.iinc i n, 3)) (hg : jr_gt lv i = some (.int x)) (hv : x + Int32.ofInt n = v) (hn : i < nL) (ho : jr_one lv = true) (kk : jw_J E nL w (pc + 3) (jr_st lv i (.int v)) st) : jw_J E nL w pc lv st := fun H locs ls hP hD hS hl => by
  obtain ⟨k, hk⟩ := List.getElem?_of_mem (jr_gt_mem hg)
  exact lv_iinc C.1 C.2.1 hd hl hk hv hn rfl (fun ls' hl' => kk H locs ls' hP hD hS (jr_stored ho hl'))
/-- a counter goes up by one -/
theorem jr_inc (C : jw_C E cc nL own tys lev) {i a : Nat} (hd : decode cc pc = .ok (.iinc i 1, 3)) (hg : jr_gt lv i = some (.int (nI a))) (hn : i < nL) (ho : jr_one lv = true) (kk : jw_J E nL w (pc + 3) (jr_st lv i (.int (nI (a + 1)))) st) : jw_J E nL w pc lv st := jr_iincv C hd hg (by rw [nI_succ]; rfl) hn ho kk
/-- a counter goes down by one -/
theorem jr_dec (C : jw_C E cc nL own tys lev) {i a : Nat} (hd : decode cc pc = .ok (.iinc i (-1), 3)) (hg : jr_gt lv i = some (.int (nI (a + 1)))) (hn : i < nL) (ho : jr_one lv = true) (kk : jw_J E nL w (pc + 3) (jr_st lv i (.int (nI a))) st) : jw_J E nL w pc lv st := jr_iincv C hd hg (pk_m1 a) hn ho kk
theorem jr_iadd (C : jw_C E cc nL own tys lev) {x y : Int32} (hd : decode cc pc = .ok (.iadd, 1)) (kk : jw_J E nL w (pc + 1) lv (.int (x + y) :: st)) : jw_J E nL w pc lv (.int y :: .int x :: st) := fun H locs ls hP hD hS hl => lv_iadd C.1 C.2.1 hd (kk H locs ls hP hD hS hl)
theorem jr_isub (C : jw_C E cc nL own tys lev) {x y : Int32} (hd : decode cc pc = .ok (.isub, 1)) (kk : jw_J E nL w (pc + 1) lv (.int (x - y) :: st)) : jw_J E nL w pc lv (.int y :: .int x :: st) := fun H locs ls hP hD hS hl => lv_isub C.1 C.2.1 hd (kk H locs ls hP hD hS hl)
theorem jr_imul (C : jw_C E cc nL own tys lev) {x y : Int32} (hd : decode cc pc = .ok (.imul, 1)) (kk : jw_J E nL w (pc + 1) lv (.int (x * y) :: st)) : jw_J E nL w pc lv (.int y :: .int x :: st) := fun H locs ls hP hD hS hl => lv_imul C.1 C.2.1 hd (kk H locs ls hP hD hS hl)
theorem jr_iand (C : jw_C E cc nL own tys lev) {x y : Int32} (hd : decode cc pc = .ok (.iand, 1)) (kk : jw_J E nL w (pc + 1) lv (.int (x &&& y) :: st)) : jw_J E nL w pc lv (.int y :: .int x :: st) := fun H locs ls hP hD hS hl => lv_iand C.1 C.2.1 hd (kk H locs ls hP hD hS hl)
theorem jr_ior (C : jw_C E cc nL own tys lev) {x y : Int32} (hd : decode cc pc = .ok (.ior, 1)) (kk : jw_J E nL w (pc + 1) lv (.int (x ||| y) :: st)) : jw_J E nL w pc lv (.int y :: .int x :: st) := fun H locs ls hP hD hS hl => lv_ior C.1 C.2.1 hd (kk H locs ls hP hD hS hl)
theorem jr_ixor (C : jw_C E cc nL own tys lev) {x y : Int32} (hd : decode cc pc = .ok (.ixor, 1)) (kk : jw_J E nL w (pc + 1) lv (.int (x ^^^ y) :: st)) : jw_J E nL w pc lv (.int y :: .int x :: st) := fun H locs ls hP hD hS hl => lv_ixor C.1 C.2.1 hd (kk H locs ls hP hD hS hl)
theorem jr_ishl (C : jw_C E cc nL own tys lev) {x y : Int32} (hd : decode cc pc = .ok (.ishl, 1)) (kk : jw_J E nL w (pc + 1) lv (.int (x <<< (y &&& 31)) :: st)) : jw_J E nL w pc lv (.int y :: .int x :: st) := fun H locs ls hP hD hS hl => lv_ishl C.1 C.2.1 hd (kk H locs ls hP hD hS hl)
theorem jr_ishr (C : jw_C E cc nL own tys lev) {x y : Int32} (hd : decode cc pc = .ok (.ishr, 1)) (kk : jw_J E nL w (pc + 1) lv (.int (x >>> (y &&& 31)) :: st)) : jw_J E nL w pc lv (.int y :: .int x :: st) := fun H locs ls hP hD hS hl => lv_ishr C.1 C.2.1 hd (kk H locs ls hP hD hS hl)
theorem jr_idiv (C : jw_C E cc nL own tys lev) {x y : Int32} (hd : decode cc pc = .ok (.idiv, 1)) (hne : ¬ y = 0) (kk : jw_J E nL w (pc + 1) lv (.int (x / y) :: st)) : jw_J E nL w pc lv (.int y :: .int x :: st) := fun H locs ls hP hD hS hl => lv_idiv C.1 C.2.1 hd hne (kk H locs ls hP hD hS hl)
theorem jr_dup (C : jw_C E cc nL own tys lev) {va : Value} (hd : decode cc pc = .ok (.dup, 1)) (hva : va.category = 1) (kk : jw_J E nL w (pc + 1) lv (va :: va :: st)) : jw_J E nL w pc lv (va :: st) := fun H locs ls hP hD hS hl => lv_dup C.1 C.2.1 hd hva (kk H locs ls hP hD hS hl)
theorem jr_goto (C : jw_C E cc nL own tys lev) {off : Int} {tgt : Nat} (hd : decode cc pc = .ok (.goto off, 3)) (ht : (pc : Int) + off = (tgt : Int)) (kk : jw_J E nL w tgt lv st) : jw_J E nL w pc lv st := fun H locs ls hP hD hS hl => lv_goto C.1 C.2.1 hd ht (kk H locs ls hP hD hS hl)
-- numbers that are naturals
theorem jr_iaddN (C : jw_C E cc nL own tys lev) {a b : Nat} (hd : decode cc pc = .ok (.iadd, 1)) (kk : jw_J E nL w (pc + 1) lv (.int (nI (a + b)) :: st)) : jw_J E nL w pc lv (.int (nI b) :: .int (nI a) :: st) := jr_iadd C hd (jr_top (nI_add a b) kk)
theorem jr_imulN (C : jw_C E cc nL own tys lev) {a b : Nat} (hd : decode cc pc = .ok (.imul, 1)) (kk : jw_J E nL w (pc + 1) lv (.int (nI (a * b)) :: st)) : jw_J E nL w pc lv (.int (nI b) :: .int (nI a) :: st) := jr_imul C hd (jr_top (pk_mul a b) kk)
theorem jr_isubN (C : jw_C E cc nL own tys lev) {a b : Nat} (hd : decode cc pc = .ok (.isub, 1)) (h : b ≤ a) (kk : jw_J E nL w (pc + 1) lv (.int (nI (a - b)) :: st)) : jw_J E nL w pc lv (.int (nI b) :: .int (nI a) :: st) := jr_isub C hd (jr_top (pk_sub h) kk)
theorem jr_idivN (C : jw_C E cc nL own tys lev) {a b : Nat} (hd : decode cc pc = .ok (.idiv, 1)) (ha : a < 2 ^ 31) (h0 : 0 < b) (hb : b < 2 ^ 31) (kk : jw_J E nL w (pc + 1) lv (.int (nI (a / b)) :: st)) : jw_J E nL w pc lv (.int (nI b) :: .int (nI a) :: st) := jr_idiv C hd (nI_ne0 h0 hb) (jr_top (pk_div ha h0 hb) kk)
theorem jr_iremN (C : jw_C E cc nL own tys lev) {a b : Nat} (hd : decode cc pc = .ok (.irem, 1)) (ha : a < 2 ^ 31) (h0 : 0 < b) (hb : b < 2 ^ 31) (kk : jw_J E nL w (pc + 1) lv (.int (nI (a % b)) :: st)) : jw_J E nL w pc lv (.int (nI b) :: .int (nI a) :: st) := fun H locs ls hP hD hS hl => lv_irem C.1 C.2.1 hd (nI_ne0 h0 hb) (by rw [pk_rem ha h0 hb]; exact kk H locs ls hP hD hS hl)
end JR
end
section
/-! branches, ends, calls -/
set_option maxRecDepth 100000
def jp_b (b : Bool) : Int32 := cond b 1 0
def jp_o (a : Option Nat) : Int32 := match a with
  | none => -1
  | some k => nI k
theorem jp_b0 {b : Bool} : jp_b b = 0 ↔ b = false := by cases b <;> decide
theorem jp_bb {a b : Bool} : jp_b a = jp_b b ↔ a = b := by cases a <;> cases b <;> decide
theorem jp_b01 (b : Bool) : jp_b b = if b = true then 1 else 0 := by cases b <;> rfl
theorem jp_on {x : Option Nat} (h : ∀ k, x = some k → k < 2 ^ 31) : jp_o x = -1 ↔ x = none := by
  cases x with
  | none => simp [jp_o]
  | some k =>
    constructor
    · intro e
      have h1 : (nI k).toInt = (-1 : Int32).toInt := by rw [show nI k = -1 from e]
      rw [nI_toInt (h k rfl)] at h1
      have h2 : (-1 : Int32).toInt = -1 := by decide
      omega
    · intro e; cases e
theorem jp_os {x : Option Nat} {s : Nat} (h : ∀ k, x = some k → k < 2 ^ 31) (hs : s < 2 ^ 31) : jp_o x = nI s ↔ x = some s := by
  cases x with
  | none =>
    constructor
    · intro e
      have h1 : (nI s).toInt = (-1 : Int32).toInt := by rw [show nI s = -1 from (show (-1 : Int32) = nI s from e).symm]
      rw [nI_toInt hs] at h1
      have h2 : (-1 : Int32).toInt = -1 := by decide
      omega
    · intro e; cases e
  | some k =>
    constructor
    · intro e
      have := (nI_eq (h k rfl) hs).mp e
      rw [this]
    · intro e; cases e; rfl
section JB
variable {E : je_E} {cc : ByteArray} {nL : Nat} {own : String} {tys : List (ClassId × FieldType)} {lev : Nat} {w : va_W} {pc : Nat} {lv : List (Nat × Value)} {st : List Value} {off : Int} {tgt : Nat}
theorem jr_if_eq (C : jw_C E cc nL own tys lev) {x : Int32} (hd : decode cc pc = .ok (.ifCond .eq off, 3)) (ht : (pc : Int) + off = (tgt : Int)) (kt : x = 0 → jw_J E nL w tgt lv st) (kf : ¬ x = 0 → jw_J E nL w (pc + 3) lv st) : jw_J E nL w pc lv (.int x :: st) := fun H locs ls hP hD hS hl => lv_if_eq C.1 C.2.1 hd ht (fun h => kt h H locs ls hP hD hS hl) (fun h => kf h H locs ls hP hD hS hl)
theorem jr_icmp_eq (C : jw_C E cc nL own tys lev) {x y : Int32} (hd : decode cc pc = .ok (.if_icmp .eq off, 3)) (ht : (pc : Int) + off = (tgt : Int)) (kt : x = y → jw_J E nL w tgt lv st) (kf : ¬ x = y → jw_J E nL w (pc + 3) lv st) : jw_J E nL w pc lv (.int y :: .int x :: st) := fun H locs ls hP hD hS hl => lv_icmp_eq C.1 C.2.1 hd ht (fun h => kt h H locs ls hP hD hS hl) (fun h => kf h H locs ls hP hD hS hl)
theorem jr_if_ne (C : jw_C E cc nL own tys lev) {x : Int32} (hd : decode cc pc = .ok (.ifCond .ne off, 3)) (ht : (pc : Int) + off = (tgt : Int)) (kt : ¬ x = 0 → jw_J E nL w tgt lv st) (kf : x = 0 → jw_J E nL w (pc + 3) lv st) : jw_J E nL w pc lv (.int x :: st) := fun H locs ls hP hD hS hl => lv_if_ne C.1 C.2.1 hd ht (fun h => kt h H locs ls hP hD hS hl) (fun h => kf h H locs ls hP hD hS hl)
theorem jr_icmp_ne (C : jw_C E cc nL own tys lev) {x y : Int32} (hd : decode cc pc = .ok (.if_icmp .ne off, 3)) (ht : (pc : Int) + off = (tgt : Int)) (kt : ¬ x = y → jw_J E nL w tgt lv st) (kf : x = y → jw_J E nL w (pc + 3) lv st) : jw_J E nL w pc lv (.int y :: .int x :: st) := fun H locs ls hP hD hS hl => lv_icmp_ne C.1 C.2.1 hd ht (fun h => kt h H locs ls hP hD hS hl) (fun h => kf h H locs ls hP hD hS hl)
theorem jr_if_lt (C : jw_C E cc nL own tys lev) {x : Int32} (hd : decode cc pc = .ok (.ifCond .lt off, 3)) (ht : (pc : Int) + off = (tgt : Int)) (kt : x < 0 → jw_J E nL w tgt lv st) (kf : ¬ x < 0 → jw_J E nL w (pc + 3) lv st) : jw_J E nL w pc lv (.int x :: st) := fun H locs ls hP hD hS hl => lv_if_lt C.1 C.2.1 hd ht (fun h => kt h H locs ls hP hD hS hl) (fun h => kf h H locs ls hP hD hS hl)
theorem jr_icmp_lt (C : jw_C E cc nL own tys lev) {x y : Int32} (hd : decode cc pc = .ok (.if_icmp .lt off, 3)) (ht : (pc : Int) + off = (tgt : Int)) (kt : x < y → jw_J E nL w tgt lv st) (kf : ¬ x < y → jw_J E nL w (pc + 3) lv st) : jw_J E nL w pc lv (.int y :: .int x :: st) := fun H locs ls hP hD hS hl => lv_icmp_lt C.1 C.2.1 hd ht (fun h => kt h H locs ls hP hD hS hl) (fun h => kf h H locs ls hP hD hS hl)
theorem jr_if_ge (C : jw_C E cc nL own tys lev) {x : Int32} (hd : decode cc pc = .ok (.ifCond .ge off, 3)) (ht : (pc : Int) + off = (tgt : Int)) (kt : 0 ≤ x → jw_J E nL w tgt lv st) (kf : ¬ 0 ≤ x → jw_J E nL w (pc + 3) lv st) : jw_J E nL w pc lv (.int x :: st) := fun H locs ls hP hD hS hl => lv_if_ge C.1 C.2.1 hd ht (fun h => kt h H locs ls hP hD hS hl) (fun h => kf h H locs ls hP hD hS hl)
theorem jr_icmp_ge (C : jw_C E cc nL own tys lev) {x y : Int32} (hd : decode cc pc = .ok (.if_icmp .ge off, 3)) (ht : (pc : Int) + off = (tgt : Int)) (kt : y ≤ x → jw_J E nL w tgt lv st) (kf : ¬ y ≤ x → jw_J E nL w (pc + 3) lv st) : jw_J E nL w pc lv (.int y :: .int x :: st) := fun H locs ls hP hD hS hl => lv_icmp_ge C.1 C.2.1 hd ht (fun h => kt h H locs ls hP hD hS hl) (fun h => kf h H locs ls hP hD hS hl)
theorem jr_if_gt (C : jw_C E cc nL own tys lev) {x : Int32} (hd : decode cc pc = .ok (.ifCond .gt off, 3)) (ht : (pc : Int) + off = (tgt : Int)) (kt : 0 < x → jw_J E nL w tgt lv st) (kf : ¬ 0 < x → jw_J E nL w (pc + 3) lv st) : jw_J E nL w pc lv (.int x :: st) := fun H locs ls hP hD hS hl => lv_if_gt C.1 C.2.1 hd ht (fun h => kt h H locs ls hP hD hS hl) (fun h => kf h H locs ls hP hD hS hl)
theorem jr_icmp_gt (C : jw_C E cc nL own tys lev) {x y : Int32} (hd : decode cc pc = .ok (.if_icmp .gt off, 3)) (ht : (pc : Int) + off = (tgt : Int)) (kt : y < x → jw_J E nL w tgt lv st) (kf : ¬ y < x → jw_J E nL w (pc + 3) lv st) : jw_J E nL w pc lv (.int y :: .int x :: st) := fun H locs ls hP hD hS hl => lv_icmp_gt C.1 C.2.1 hd ht (fun h => kt h H locs ls hP hD hS hl) (fun h => kf h H locs ls hP hD hS hl)
theorem jr_if_le (C : jw_C E cc nL own tys lev) {x : Int32} (hd : decode cc pc = .ok (.ifCond .le off, 3)) (ht : (pc : Int) + off = (tgt : Int)) (kt : x ≤ 0 → jw_J E nL w tgt lv st) (kf : ¬ x ≤ 0 → jw_J E nL w (pc + 3) lv st) : jw_J E nL w pc lv (.int x :: st) := fun H locs ls hP hD hS hl => lv_if_le C.1 C.2.1 hd ht (fun h => kt h H locs ls hP hD hS hl) (fun h => kf h H locs ls hP hD hS hl)
theorem jr_icmp_le (C : jw_C E cc nL own tys lev) {x y : Int32} (hd : decode cc pc = .ok (.if_icmp .le off, 3)) (ht : (pc : Int) + off = (tgt : Int)) (kt : x ≤ y → jw_J E nL w tgt lv st) (kf : ¬ x ≤ y → jw_J E nL w (pc + 3) lv st) : jw_J E nL w pc lv (.int y :: .int x :: st) := fun H locs ls hP hD hS hl => lv_icmp_le C.1 C.2.1 hd ht (fun h => kt h H locs ls hP hD hS hl) (fun h => kf h H locs ls hP hD hS hl)
theorem jr_icmp_eqN (C : jw_C E cc nL own tys lev) {a b : Nat} (hd : decode cc pc = .ok (.if_icmp .eq off, 3)) (ht : (pc : Int) + off = (tgt : Int)) (ha : a < 2 ^ 31) (hb : b < 2 ^ 31) (kt : a = b → jw_J E nL w tgt lv st) (kf : ¬ a = b → jw_J E nL w (pc + 3) lv st) : jw_J E nL w pc lv (.int (nI b) :: .int (nI a) :: st) := jr_icmp_eq C hd ht (fun h => kt ((nI_eq ha hb).mp h)) (fun h => kf (fun q => h ((nI_eq ha hb).mpr q)))
theorem jr_icmp_neN (C : jw_C E cc nL own tys lev) {a b : Nat} (hd : decode cc pc = .ok (.if_icmp .ne off, 3)) (ht : (pc : Int) + off = (tgt : Int)) (ha : a < 2 ^ 31) (hb : b < 2 ^ 31) (kt : ¬ a = b → jw_J E nL w tgt lv st) (kf : a = b → jw_J E nL w (pc + 3) lv st) : jw_J E nL w pc lv (.int (nI b) :: .int (nI a) :: st) := jr_icmp_ne C hd ht (fun h => kt (fun q => h ((nI_eq ha hb).mpr q))) (fun h => kf ((nI_eq ha hb).mp h))
theorem jr_icmp_ltN (C : jw_C E cc nL own tys lev) {a b : Nat} (hd : decode cc pc = .ok (.if_icmp .lt off, 3)) (ht : (pc : Int) + off = (tgt : Int)) (ha : a < 2 ^ 31) (hb : b < 2 ^ 31) (kt : a < b → jw_J E nL w tgt lv st) (kf : b ≤ a → jw_J E nL w (pc + 3) lv st) : jw_J E nL w pc lv (.int (nI b) :: .int (nI a) :: st) := jr_icmp_lt C hd ht (fun h => kt ((nI_ltI ha hb).mp h)) (fun h => kf (Nat.not_lt.mp fun q => h ((nI_ltI ha hb).mpr q)))
theorem jr_icmp_geN (C : jw_C E cc nL own tys lev) {a b : Nat} (hd : decode cc pc = .ok (.if_icmp .ge off, 3)) (ht : (pc : Int) + off = (tgt : Int)) (ha : a < 2 ^ 31) (hb : b < 2 ^ 31) (kt : b ≤ a → jw_J E nL w tgt lv st) (kf : a < b → jw_J E nL w (pc + 3) lv st) : jw_J E nL w pc lv (.int (nI b) :: .int (nI a) :: st) := jr_icmp_ge C hd ht (fun h => kt ((nI_leI hb ha).mp h)) (fun h => kf (Nat.not_le.mp fun q => h ((nI_leI hb ha).mpr q)))
theorem jr_icmp_gtN (C : jw_C E cc nL own tys lev) {a b : Nat} (hd : decode cc pc = .ok (.if_icmp .gt off, 3)) (ht : (pc : Int) + off = (tgt : Int)) (ha : a < 2 ^ 31) (hb : b < 2 ^ 31) (kt : b < a → jw_J E nL w tgt lv st) (kf : a ≤ b → jw_J E nL w (pc + 3) lv st) : jw_J E nL w pc lv (.int (nI b) :: .int (nI a) :: st) := jr_icmp_gt C hd ht (fun h => kt ((nI_ltI hb ha).mp h)) (fun h => kf (Nat.not_lt.mp fun q => h ((nI_ltI hb ha).mpr q)))
theorem jr_icmp_leN (C : jw_C E cc nL own tys lev) {a b : Nat} (hd : decode cc pc = .ok (.if_icmp .le off, 3)) (ht : (pc : Int) + off = (tgt : Int)) (ha : a < 2 ^ 31) (hb : b < 2 ^ 31) (kt : a ≤ b → jw_J E nL w tgt lv st) (kf : b < a → jw_J E nL w (pc + 3) lv st) : jw_J E nL w pc lv (.int (nI b) :: .int (nI a) :: st) := jr_icmp_le C hd ht (fun h => kt ((nI_leI ha hb).mp h)) (fun h => kf (Nat.not_le.mp fun q => h ((nI_leI ha hb).mpr q)))
theorem jr_if_eqN (C : jw_C E cc nL own tys lev) {a : Nat} (hd : decode cc pc = .ok (.ifCond .eq off, 3)) (ht : (pc : Int) + off = (tgt : Int)) (ha : a < 2 ^ 31) (kt : a = 0 → jw_J E nL w tgt lv st) (kf : ¬ a = 0 → jw_J E nL w (pc + 3) lv st) : jw_J E nL w pc lv (.int (nI a) :: st) := jr_if_eq C hd ht (fun h => kt ((nI_eq ha (by decide)).mp (by rw [h, nI_0]))) (fun h => kf (fun q => h (by rw [q, nI_0])))
theorem jr_if_neN (C : jw_C E cc nL own tys lev) {a : Nat} (hd : decode cc pc = .ok (.ifCond .ne off, 3)) (ht : (pc : Int) + off = (tgt : Int)) (ha : a < 2 ^ 31) (kt : ¬ a = 0 → jw_J E nL w tgt lv st) (kf : a = 0 → jw_J E nL w (pc + 3) lv st) : jw_J E nL w pc lv (.int (nI a) :: st) := jr_if_ne C hd ht (fun h => kt (fun q => h (by rw [q, nI_0]))) (fun h => kf ((nI_eq ha (by decide)).mp (by rw [h, nI_0])))
theorem jr_if_leN (C : jw_C E cc nL own tys lev) {a : Nat} (hd : decode cc pc = .ok (.ifCond .le off, 3)) (ht : (pc : Int) + off = (tgt : Int)) (ha : a < 2 ^ 31) (kt : a = 0 → jw_J E nL w tgt lv st) (kf : 0 < a → jw_J E nL w (pc + 3) lv st) : jw_J E nL w pc lv (.int (nI a) :: st) := jr_if_le C hd ht (fun h => kt (Nat.eq_zero_of_not_pos fun q => nI_nle q ha h)) (fun h => kf (Nat.pos_of_ne_zero fun q => h (by rw [q, nI_0]; decide)))
theorem jr_if_ltN (C : jw_C E cc nL own tys lev) {a : Nat} (hd : decode cc pc = .ok (.ifCond .lt off, 3)) (ht : (pc : Int) + off = (tgt : Int)) (ha : a < 2 ^ 31) (kf : jw_J E nL w (pc + 3) lv st) : jw_J E nL w pc lv (.int (nI a) :: st) := jr_if_lt C hd ht (fun h => absurd h (nI_pos ha)) (fun _ => kf)
theorem jr_if_eqB (C : jw_C E cc nL own tys lev) {b : Bool} (hd : decode cc pc = .ok (.ifCond .eq off, 3)) (ht : (pc : Int) + off = (tgt : Int)) (kt : b = false → jw_J E nL w tgt lv st) (kf : b = true → jw_J E nL w (pc + 3) lv st) : jw_J E nL w pc lv (.int (jp_b b) :: st) := jr_if_eq C hd ht (fun h => kt (jp_b0.mp h)) (fun h => kf (by cases b; exact absurd rfl h; rfl))
theorem jr_if_neB (C : jw_C E cc nL own tys lev) {b : Bool} (hd : decode cc pc = .ok (.ifCond .ne off, 3)) (ht : (pc : Int) + off = (tgt : Int)) (kt : b = true → jw_J E nL w tgt lv st) (kf : b = false → jw_J E nL w (pc + 3) lv st) : jw_J E nL w pc lv (.int (jp_b b) :: st) := jr_if_ne C hd ht (fun h => kt (by cases b; exact absurd rfl h; rfl)) (fun h => kf (jp_b0.mp h))
theorem jr_icmp_eqB (C : jw_C E cc nL own tys lev) {a b : Bool} (hd : decode cc pc = .ok (.if_icmp .eq off, 3)) (ht : (pc : Int) + off = (tgt : Int)) (kt : a = b → jw_J E nL w tgt lv st) (kf : ¬ a = b → jw_J E nL w (pc + 3) lv st) : jw_J E nL w pc lv (.int (jp_b b) :: .int (jp_b a) :: st) := jr_icmp_eq C hd ht (fun h => kt (jp_bb.mp h)) (fun h => kf (fun q => h (jp_bb.mpr q)))
theorem jr_icmp_neB (C : jw_C E cc nL own tys lev) {a b : Bool} (hd : decode cc pc = .ok (.if_icmp .ne off, 3)) (ht : (pc : Int) + off = (tgt : Int)) (kt : ¬ a = b → jw_J E nL w tgt lv st) (kf : a = b → jw_J E nL w (pc + 3) lv st) : jw_J E nL w pc lv (.int (jp_b b) :: .int (jp_b a) :: st) := jr_icmp_ne C hd ht (fun h => kt (fun q => h (jp_bb.mpr q))) (fun h => kf (jp_bb.mp h))
theorem jr_icmp_neO (C : jw_C E cc nL own tys lev) {x : Option Nat} (hd : decode cc pc = .ok (.if_icmp .ne off, 3)) (ht : (pc : Int) + off = (tgt : Int)) (hx : ∀ k, x = some k → k < 2 ^ 31) (kt : ¬ x = none → jw_J E nL w tgt lv st) (kf : x = none → jw_J E nL w (pc + 3) lv st) : jw_J E nL w pc lv (.int (-1) :: .int (jp_o x) :: st) := jr_icmp_ne C hd ht (fun h => kt (fun q => h ((jp_on hx).mpr q))) (fun h => kf ((jp_on hx).mp h))
theorem jr_icmp_eqO (C : jw_C E cc nL own tys lev) {x : Option Nat} (hd : decode cc pc = .ok (.if_icmp .eq off, 3)) (ht : (pc : Int) + off = (tgt : Int)) (hx : ∀ k, x = some k → k < 2 ^ 31) (kt : x = none → jw_J E nL w tgt lv st) (kf : ¬ x = none → jw_J E nL w (pc + 3) lv st) : jw_J E nL w pc lv (.int (-1) :: .int (jp_o x) :: st) := jr_icmp_eq C hd ht (fun h => kt ((jp_on hx).mp h)) (fun h => kf (fun q => h ((jp_on hx).mpr q)))
theorem jr_icmp_neS (C : jw_C E cc nL own tys lev) {x : Option Nat} {a : Nat} (hd : decode cc pc = .ok (.if_icmp .ne off, 3)) (ht : (pc : Int) + off = (tgt : Int)) (hx : ∀ k, x = some k → k < 2 ^ 31) (ha : a < 2 ^ 31) (kt : ¬ x = some a → jw_J E nL w tgt lv st) (kf : x = some a → jw_J E nL w (pc + 3) lv st) : jw_J E nL w pc lv (.int (nI a) :: .int (jp_o x) :: st) := jr_icmp_ne C hd ht (fun h => kt (fun q => h ((jp_os hx ha).mpr q))) (fun h => kf ((jp_os hx ha).mp h))
end JB
/-- the room of a method of level k -/
def jw_rm (k : Nat) : Room := { frames := k, cells := 0, slots := 0, locals := 26 * k }
/-- a method's contract: on the world w with the arguments av it answers an int and leaves a world, as post says -/
def jw_Mi (y : MethodName) (cc : ByteArray) (maxL : Nat) (ret : Option FieldType) (k : Nat) (D : va_G) (tys : List (ClassId × FieldType)) (av : List Value) (w : va_W) (post : Int32 → va_W → Prop) : Prop :=
  ∀ (l : Launch) (sz : Nat), Met l y (ws_ y cc maxL ret) (jw_rm k) (va_Pc av (fun U => U.heap.size = sz ∧ va_P D vwCl w U.heap ∧ va_K D vwCl tys U ∧ va_D (fun _ => True) w)) (va_Qi post (fun (w' : va_W) t => va_P D vwCl w' t.heap ∧ va_D (va_A w sz) w') (va_A w sz)) 0 0 (va_A w sz)
/-- the same for a method without an answer -/
def jw_Mv (y : MethodName) (cc : ByteArray) (maxL : Nat) (k : Nat) (D : va_G) (tys : List (ClassId × FieldType)) (av : List Value) (w : va_W) (post : va_W → Prop) : Prop :=
  ∀ (l : Launch) (sz : Nat), Met l y (ws_ y cc maxL none) (jw_rm k) (va_Pc av (fun U => U.heap.size = sz ∧ va_P D vwCl w U.heap ∧ va_K D vwCl tys U ∧ va_D (fun _ => True) w)) (va_Qv post (fun (w' : va_W) t => va_P D vwCl w' t.heap ∧ va_D (va_A w sz) w') (va_A w sz)) 0 0 (va_A w sz)
theorem jw_Mi.of {y : MethodName} {cc : ByteArray} {maxL : Nat} {ty : FieldType} {k : Nat} {D : va_G} {tys : List (ClassId × FieldType)} {av : List Value} {w : va_W} {post : Int32 → va_W → Prop} {own : String} (hy : plainName y.cls = true) (ho : y.cls = own) (hlen : (lg_sl av).length ≤ maxL) (hn : ∀ v w', post v w' → narrow ty (.int v) = .int v)
    (body : ∀ E : je_E, je_D E = D → jw_C E cc maxL own tys k → (∀ pc lv v w', decode cc pc = .ok (.ireturn, 1) → post v w' → jw_J E maxL w' pc lv [.int v]) → jw_J E maxL w 0 (lv_args 0 av) []) : jw_Mi y cc maxL (some ty) k D tys av w post := by
  intro l sz
  refine Met.ofW (cc := cc) (maxL := maxL) (ret := some ty) hy rfl ?_
  intro p e s m args below meth c s₁ B hml hv
  obtain ⟨rfl, hsz, hP, hK, hD0⟩ := hv
  have hx := B.exec
  have hb := B.bytes
  have hr := B.returns
  have hts := atoms_spec (ws := ws_ y cc maxL (some ty)) B.pre
  have hts : ∀ w ∈ lw_all, w.before _ s = true := fun w h => hts w (List.mem_cons_of_mem _ h)
  have hown : s.vm.findClass own = some m.cls := ho ▸ findClass_of_methodNamed B.named
  have hlocks := B.notSynchronized
  subst hsz
  have hD := hD0.self (sz := s.heap.size)
  have hA : ∀ q : Nat, s.heap.size ≤ q → va_A w s.heap.size q := fun q h => Or.inr h
  have hl := lv_entry av (n := maxL) hlen
  rw [lg_entry_eq]
  refine body (p, l, e, jw_rm k, s, m, av.toArray, below, meth, c, D, va_A w s.heap.size, MQ below (va_Qi post (fun (w' : va_W) t => va_P D vwCl w' t.heap ∧ va_D (va_A w s.heap.size) w') (va_A w s.heap.size)) av.toArray s 0 0 (va_A w s.heap.size), 0, 0) rfl ⟨hx, hb, hml, hown, hts, hK, hA, ⟨Nat.le_refl _, Nat.le_refl _⟩, ⟨Nat.zero_le _, Nat.zero_le _⟩⟩ ?_ _ _ _ hP hD va_S.rf hl
  intro pc lv v w' hd hp H locs ls hP' hD' hS' hl'
  exact W.zret (v := v) hx hb hr (hn v w' hp) (fun t ht hW => ⟨⟨v, w', rfl, hp, by rw [ht]; exact hP', hD'⟩, hS'.F ht⟩) hS'.2.2 hd
theorem jw_Mv.of {y : MethodName} {cc : ByteArray} {maxL : Nat} {k : Nat} {D : va_G} {tys : List (ClassId × FieldType)} {av : List Value} {w : va_W} {post : va_W → Prop} {own : String} (hy : plainName y.cls = true) (ho : y.cls = own) (hlen : (lg_sl av).length ≤ maxL)
    (body : ∀ E : je_E, je_D E = D → jw_C E cc maxL own tys k → (∀ pc lv w', decode cc pc = .ok (.return_, 1) → post w' → jw_J E maxL w' pc lv []) → jw_J E maxL w 0 (lv_args 0 av) []) : jw_Mv y cc maxL k D tys av w post := by
  intro l sz
  refine Met.ofW (cc := cc) (maxL := maxL) (ret := none) hy rfl ?_
  intro p e s m args below meth c s₁ B hml hv
  obtain ⟨rfl, hsz, hP, hK, hD0⟩ := hv
  have hx := B.exec
  have hb := B.bytes
  have hr := B.returns
  have hts := atoms_spec (ws := ws_ y cc maxL none) B.pre
  have hts : ∀ w ∈ lw_all, w.before _ s = true := fun w h => hts w (List.mem_cons_of_mem _ h)
  have hown : s.vm.findClass own = some m.cls := ho ▸ findClass_of_methodNamed B.named
  have hlocks := B.notSynchronized
  subst hsz
  have hD := hD0.self (sz := s.heap.size)
  have hA : ∀ q : Nat, s.heap.size ≤ q → va_A w s.heap.size q := fun q h => Or.inr h
  have hl := lv_entry av (n := maxL) hlen
  rw [lg_entry_eq]
  refine body (p, l, e, jw_rm k, s, m, av.toArray, below, meth, c, D, va_A w s.heap.size, MQ below (va_Qv post (fun (w' : va_W) t => va_P D vwCl w' t.heap ∧ va_D (va_A w s.heap.size) w') (va_A w s.heap.size)) av.toArray s 0 0 (va_A w s.heap.size), 0, 0) rfl ⟨hx, hb, hml, hown, hts, hK, hA, ⟨Nat.le_refl _, Nat.le_refl _⟩, ⟨Nat.zero_le _, Nat.zero_le _⟩⟩ ?_ _ _ _ hP hD va_S.rf hl
  intro pc lv w' hd hp H locs ls hP' hD' hS' hl'
  exact W.vret hx hb hr (fun t ht hW => ⟨⟨w', rfl, hp, by rw [ht]; exact hP', hD'⟩, hS'.F ht⟩) hS'.2.2 hd
theorem jw_free {E : je_E} {cc : ByteArray} {nL : Nat} {own : String} {tys : List (ClassId × FieldType)} {lev : Nat} {w : va_W} {H : Heap} {locs : List Loc} (C : jw_C E cc nL own tys lev) (hD : va_D (je_A E) w) (hS : va_S (je_A E) (je_s E).heap H locs) : ∀ q, va_A w H.size q → je_A E q := by
  rintro q (⟨k, e, h⟩ | h)
  · exact hD.2 k _ h
  · exact C.2.2.2.2.2.2.1 q (Nat.le_trans hS.1 h)
/-- the room of a call -/
theorem jw_roomy {E : je_E} {cc : ByteArray} {nL : Nat} {own : String} {tys : List (ClassId × FieldType)} {lev k maxL : Nat} (C : jw_C E cc nL own tys lev) (hk : k + 1 ≤ lev) (hm : maxL ≤ 7) : (jw_rm k).frames + 1 ≤ (je_R E).frames ∧ 8 + (maxL + 11) + (jw_rm k).locals ≤ (je_R E).locals := by
  have h1 := C.2.2.2.2.2.2.2.1.1
  have h2 := C.2.2.2.2.2.2.2.1.2
  have e1 : (jw_rm k).frames = k := rfl
  have e2 : (jw_rm k).locals = 26 * k := rfl
  rw [e1, e2]
  constructor <;> omega
theorem jw_blind {D : va_G} {tys : List (ClassId × FieldType)} {av : List Value} {w : va_W} {sz : Nat} : FrameBlind (va_Pc av (fun U => U.heap.size = sz ∧ va_P D vwCl w U.heap ∧ va_K D vwCl tys U ∧ va_D (fun _ => True) w)) := fun a U g mk q => by
  obtain ⟨q0, q1, qP, qK, qD⟩ := q
  exact ⟨q0, q1, qP, va_K.moved (u := U) (U := U.calling g mk a) (Vm.Alike.refl U.vm) qK, qD⟩
section JK
variable {E : je_E} {cc : ByteArray} {nL : Nat} {own : String} {tys : List (ClassId × FieldType)} {lev : Nat} {w : va_W} {pc : Nat} {lv : List (Nat × Value)} {st : List Value}
variable {y : MethodName} {bytes : ByteArray} {maxL k idx b : Nat} {ret : Option FieldType} {na : Nat} {As rest : List Value} {C0 : String} {ci : Nat} {fs : List Value} {T : u_T} {N : Nat}
/-- a call through an object that stands first in the world, with an answer -/
theorem jr_calli (C : jw_C E cc nL own tys lev) {post : Int32 → va_W → Prop} (hG : GoodIn lw_all (wsV own idx C0 y (ws_ y bytes maxL ret))) (hy : y.cls = C0 ∧ y.cls ≠ "java/lang/invoke/MethodHandle" ∧ y.cls ≠ "java/lang/invoke/VarHandle" ∧ (parseMethodDescriptor y.desc).map (fun d => d.parameters.length) = some na) (hM : jw_Mi y bytes maxL ret k (je_D E) tys (.ref b :: As) w post) (hna : As.length = na) (hk : k + 1 ≤ lev) (hm : maxL ≤ 7) (h0 : w[0]? = some (b, .inr (ci, fs))) (hc : vwCl[ci]? = some (C0, T, N)) (hd : decode cc pc = .ok (.invokevirtual idx, 3)) (hst : st = As.reverse ++ .ref b :: rest) (hrs : (rest.map fun v => v.category).sum ≤ 8)
    (kk : ∀ r w', post r w' → jw_J E nL w' (pc + 3) lv (.int r :: rest)) : jw_J E nL w pc lv st := by
  subst hna
  intro H locs ls hP hD hS hl
  have hFc := jw_free C hD hS
  refine va_calli (va_runV (As := As) (rest := rest) ⟨C.1, C.2.1, C.2.2.1, C.2.2.2.1, C.2.2.2.2.1⟩ (hM (je_l E) H.size) (cwV As.length C.2.2.2.2.1 hG rfl rfl rfl hy (jw_roomy C hk hm)) ⟨jw_blind, va_recv C.2.2.2.2.2.1 hP (ci := ci) (q0 := 0) hc h0, fun U hU hW => ⟨rfl, by rw [hU], by rw [hU]; exact hP, va_K.moved hW.alike C.2.2.2.2.2.1, hD.weaken (fun _ _ _ _ => trivial)⟩⟩ rfl rfl hl.1 hst (lv_room (m := je_m E) (pc := pc) (ls := ls) (rest := st) hrs) hd ⟨C.2.2.2.2.2.2.2.2.1, C.2.2.2.2.2.2.2.2.2⟩) hS (fun q _ h => hFc q h) hFc (fun r w' t H1 locs1 ht hvm hp hB hz hk1 hS1 => ?_)
  obtain ⟨hP1, hD1⟩ := hB
  rw [ht] at hP1
  exact kk r w' hp H1 locs1 ls hP1 (hD1.weaken (fun k q _ h => hFc q.1 h)) hS1 hl
theorem jr_callv (C : jw_C E cc nL own tys lev) {post : va_W → Prop} (hG : GoodIn lw_all (wsV own idx C0 y (ws_ y bytes maxL none))) (hy : y.cls = C0 ∧ y.cls ≠ "java/lang/invoke/MethodHandle" ∧ y.cls ≠ "java/lang/invoke/VarHandle" ∧ (parseMethodDescriptor y.desc).map (fun d => d.parameters.length) = some na) (hM : jw_Mv y bytes maxL k (je_D E) tys (.ref b :: As) w post) (hna : As.length = na) (hk : k + 1 ≤ lev) (hm : maxL ≤ 7) (h0 : w[0]? = some (b, .inr (ci, fs))) (hc : vwCl[ci]? = some (C0, T, N)) (hd : decode cc pc = .ok (.invokevirtual idx, 3)) (hst : st = As.reverse ++ .ref b :: rest) (hrs : (rest.map fun v => v.category).sum ≤ 8)
    (kk : ∀ w', post w' → jw_J E nL w' (pc + 3) lv rest) : jw_J E nL w pc lv st := by
  subst hna
  intro H locs ls hP hD hS hl
  have hFc := jw_free C hD hS
  refine va_callv (va_runV (As := As) (rest := rest) ⟨C.1, C.2.1, C.2.2.1, C.2.2.2.1, C.2.2.2.2.1⟩ (hM (je_l E) H.size) (cwV As.length C.2.2.2.2.1 hG rfl rfl rfl hy (jw_roomy C hk hm)) ⟨jw_blind, va_recv C.2.2.2.2.2.1 hP (ci := ci) (q0 := 0) hc h0, fun U hU hW => ⟨rfl, by rw [hU], by rw [hU]; exact hP, va_K.moved hW.alike C.2.2.2.2.2.1, hD.weaken (fun _ _ _ _ => trivial)⟩⟩ rfl rfl hl.1 hst (lv_room (m := je_m E) (pc := pc) (ls := ls) (rest := st) hrs) hd ⟨C.2.2.2.2.2.2.2.2.1, C.2.2.2.2.2.2.2.2.2⟩) hS (fun q _ h => hFc q h) hFc (fun w' t H1 locs1 ht hvm hp hB hz hk1 hS1 => ?_)
  obtain ⟨hP1, hD1⟩ := hB
  rw [ht] at hP1
  exact kk w' hp H1 locs1 ls hP1 (hD1.weaken (fun k q _ h => hFc q.1 h)) hS1 hl
/-- a static call with an answer -/
theorem jr_calls (C : jw_C E cc nL own tys lev) {post : Int32 → va_W → Prop} (hG : GoodIn lw_all (va_wsS own idx y (ws_ y bytes maxL ret))) (hy : y.cls ≠ "java/lang/invoke/MethodHandle" ∧ y.cls ≠ "java/lang/invoke/VarHandle" ∧ (parseMethodDescriptor y.desc).map (fun d => d.parameters.length) = some na) (hM : jw_Mi y bytes maxL ret k (je_D E) tys As w post) (hna : As.length = na) (hk : k + 1 ≤ lev) (hm : maxL ≤ 7) (hd : decode cc pc = .ok (.invokestatic idx, 3)) (hst : st = As.reverse ++ rest) (hrs : (rest.map fun v => v.category).sum ≤ 8)
    (kk : ∀ r w', post r w' → jw_J E nL w' (pc + 3) lv (.int r :: rest)) : jw_J E nL w pc lv st := by
  subst hna
  intro H locs ls hP hD hS hl
  have hFc := jw_free C hD hS
  refine va_calli (va_runS (As := As) (rest := rest) ⟨C.1, C.2.1, C.2.2.1, C.2.2.2.1, C.2.2.2.2.1⟩ (hM (je_l E) H.size) (va_cwS As.length C.2.2.2.2.1 hG rfl rfl rfl hy (jw_roomy C hk hm)) ⟨jw_blind, fun U hU hW => ⟨rfl, by rw [hU], by rw [hU]; exact hP, va_K.moved hW.alike C.2.2.2.2.2.1, hD.weaken (fun _ _ _ _ => trivial)⟩⟩ rfl rfl hl.1 hst (lv_room (m := je_m E) (pc := pc) (ls := ls) (rest := st) hrs) hd ⟨C.2.2.2.2.2.2.2.2.1, C.2.2.2.2.2.2.2.2.2⟩) hS (fun q _ h => hFc q h) hFc (fun r w' t H1 locs1 ht hvm hp hB hz hk1 hS1 => ?_)
  obtain ⟨hP1, hD1⟩ := hB
  rw [ht] at hP1
  exact kk r w' hp H1 locs1 ls hP1 (hD1.weaken (fun k q _ h => hFc q.1 h)) hS1 hl
end JK
end
section
/-! the component's world: its object and its eleven arrays; a row a field -/
set_option maxRecDepth 100000
theorem jp_upN {f : Nat → Nat} {i v : Nat} : upd (fun j => nI (f j)) i (nI v) = fun j => nI (va_up f i v j) := by
  funext j; unfold upd va_up; split <;> rfl
theorem jp_upO {f : Nat → Option Nat} {i : Nat} {v : Option Nat} : upd (fun j => jp_o (f j)) i (jp_o v) = fun j => jp_o (va_up f i v j) := by
  funext j; unfold upd va_up; split <;> rfl
theorem jp_upZ {f : Nat → Bool} {i : Nat} {v : Bool} : upd (fun j => jp_b (f j)) i (vp_nar .boolean (jp_b v)) = fun j => jp_b (va_up f i v j) := by
  have e : vp_nar .boolean (jp_b v) = jp_b v := by cases v <;> rfl
  rw [e]
  funext j; unfold upd va_up; split <;> rfl
def wX (h : Nat) (ad : Nat → Nat) (cA : Nat → ClassId) (lc : Nat → Int32) (o : Nat → Nat) (bs : Nat → Option Nat) (en : Nat → Int32) (pr : Nat → Int32) (ct : Nat → Int32) (dy : Nat → Nat) (pn : Nat → Bool) (tc : Nat → Int32) (tk : Nat → Bool) (kp : Nat → Bool) (lm : Int32) (n : Nat) (td : Nat) : va_W := [(h, .inr (0, [.ref (ad 0), .ref (ad 1), .ref (ad 2), .ref (ad 3), .ref (ad 4), .ref (ad 5), .ref (ad 6), .ref (ad 7), .ref (ad 8), .ref (ad 9), .ref (ad 10), .int lm, .int (nI n), .int (nI td)])), (ad 0, .inl (cA 0, 16, .inl lc)), (ad 1, .inl (cA 1, 14, .inl (fun i => nI (o i)))), (ad 2, .inl (cA 2, 14, .inl (fun i => jp_o (bs i)))), (ad 3, .inl (cA 3, 14, .inl en)), (ad 4, .inl (cA 4, 14, .inl pr)), (ad 5, .inl (cA 5, 224, .inl ct)), (ad 6, .inl (cA 6, 14, .inl (fun i => nI (dy i)))), (ad 7, .inl (cA 7, 14, .inl (fun i => jp_b (pn i)))), (ad 8, .inl (cA 8, 14, .inl tc)), (ad 9, .inl (cA 9, 14, .inl (fun i => jp_b (tk i)))), (ad 10, .inl (cA 10, 14, .inl (fun i => jp_b (kp i))))]
def tX (cA : Nat → ClassId) : List (ClassId × FieldType) := [(cA 0, .int), (cA 1, .int), (cA 2, .int), (cA 3, .int), (cA 4, .int), (cA 5, .int), (cA 6, .int), (cA 7, .boolean), (cA 8, .int), (cA 9, .boolean), (cA 10, .boolean)]
section
variable {E : je_E} {cc : ByteArray} {nL : Nat} {own : String} {lev : Nat} {pc : Nat} {lv : List (Nat × Value)} {st : List Value} {h : Nat} {ad : Nat → Nat} {cA : Nat → ClassId} {lc : Nat → Int32} {o : Nat → Nat} {bs : Nat → Option Nat} {en : Nat → Int32} {pr : Nat → Int32} {ct : Nat → Int32} {dy : Nat → Nat} {pn : Nat → Bool} {tc : Nat → Int32} {tk : Nat → Bool} {kp : Nat → Bool} {lm : Int32} {n : Nat} {td : Nat}
theorem jx_g_lc (C : jw_C E cc nL RX0 (tX cA) lev) (hd : decode cc pc = .ok (.getfield 7, 3)) (kk : jw_J E nL (wX h ad cA lc o bs en pr ct dy pn tc tk kp lm n td) (pc + 3) lv (.ref (ad 0) :: st)) : jw_J E nL (wX h ad cA lc o bs en pr ct dy pn tc tk kp lm n td) pc lv (.ref h :: st) := fun H locs ls hP hD hS hl => va_get (D := je_D E) (ci := 0) (v := .ref (ad 0)) (C := RX0) (T := TX0) (N := 14) C.1 C.2.1 C.2.2.2.2.1 in_X0 C.2.2.2.1 C.2.2.2.2.2.1 hP 0 rfl rfl 0 (by decide) (C.2.2.2.2.1 _ q29) (fun _ h9 => h9) rfl hd (kk H locs ls hP hD hS hl)
theorem jx_l_lc (C : jw_C E cc nL own (tX cA) lev) {i : Nat} (hi : i < 16) (hd : decode cc pc = .ok (.iaload, 1)) (kk : jw_J E nL (wX h ad cA lc o bs en pr ct dy pn tc tk kp lm n td) (pc + 1) lv (.int (lc i) :: st)) : jw_J E nL (wX h ad cA lc o bs en pr ct dy pn tc tk kp lm n td) pc lv (.int (nI i) :: .ref (ad 0) :: st) := fun H locs ls hP hD hS hl => va_iald (f := lc) C.1 C.2.1 C.2.2.2.2.2.1 hP 1 0 rfl rfl (vp_in_nI hi (by decide)) hd (by rw [nI_clamp (by omega)]; exact kk H locs ls hP hD hS hl)
theorem jx_s_lc (C : jw_C E cc nL own (tX cA) lev) {i : Nat} {v : Int32} (hi : i < 16) (hd : decode cc pc = .ok (.iastore, 1)) (kk : jw_J E nL (wX h ad cA (va_up lc i v) o bs en pr ct dy pn tc tk kp lm n td) (pc + 1) lv st) : jw_J E nL (wX h ad cA lc o bs en pr ct dy pn tc tk kp lm n td) pc lv (.int (v) :: .int (nI i) :: .ref (ad 0) :: st) := fun H locs ls hP hD hS hl => va_iast (f := lc) C.1 C.2.1 C.2.2.2.2.2.1 hP hD hS 1 0 rfl rfl (vp_in_nI hi (by decide)) hd (fun H1 locs1 hP1 hD1 hS1 => by
  have e1 : upd lc (nI i).toNatClampNeg (v) = va_up lc i v := by rw [nI_clamp (by omega)]; exact rfl
  rw [e1] at hP1 hD1
  exact kk H1 locs1 ls hP1 hD1 hS1 hl)
theorem jx_g_o (C : jw_C E cc nL RX0 (tX cA) lev) (hd : decode cc pc = .ok (.getfield 13, 3)) (kk : jw_J E nL (wX h ad cA lc o bs en pr ct dy pn tc tk kp lm n td) (pc + 3) lv (.ref (ad 1) :: st)) : jw_J E nL (wX h ad cA lc o bs en pr ct dy pn tc tk kp lm n td) pc lv (.ref h :: st) := fun H locs ls hP hD hS hl => va_get (D := je_D E) (ci := 0) (v := .ref (ad 1)) (C := RX0) (T := TX0) (N := 14) C.1 C.2.1 C.2.2.2.2.1 in_X0 C.2.2.2.1 C.2.2.2.2.2.1 hP 0 rfl rfl 1 (by decide) (C.2.2.2.2.1 _ q30) (fun _ h9 => h9) rfl hd (kk H locs ls hP hD hS hl)
theorem jx_l_o (C : jw_C E cc nL own (tX cA) lev) {i : Nat} (hi : i < 14) (hd : decode cc pc = .ok (.iaload, 1)) (kk : jw_J E nL (wX h ad cA lc o bs en pr ct dy pn tc tk kp lm n td) (pc + 1) lv (.int (nI (o i)) :: st)) : jw_J E nL (wX h ad cA lc o bs en pr ct dy pn tc tk kp lm n td) pc lv (.int (nI i) :: .ref (ad 1) :: st) := fun H locs ls hP hD hS hl => va_iald (f := (fun i => nI (o i))) C.1 C.2.1 C.2.2.2.2.2.1 hP 2 1 rfl rfl (vp_in_nI hi (by decide)) hd (by rw [nI_clamp (by omega)]; exact kk H locs ls hP hD hS hl)
theorem jx_s_o (C : jw_C E cc nL own (tX cA) lev) {i : Nat} {v : Nat} (hi : i < 14) (hd : decode cc pc = .ok (.iastore, 1)) (kk : jw_J E nL (wX h ad cA lc (va_up o i v) bs en pr ct dy pn tc tk kp lm n td) (pc + 1) lv st) : jw_J E nL (wX h ad cA lc o bs en pr ct dy pn tc tk kp lm n td) pc lv (.int (nI v) :: .int (nI i) :: .ref (ad 1) :: st) := fun H locs ls hP hD hS hl => va_iast (f := (fun i => nI (o i))) C.1 C.2.1 C.2.2.2.2.2.1 hP hD hS 2 1 rfl rfl (vp_in_nI hi (by decide)) hd (fun H1 locs1 hP1 hD1 hS1 => by
  have e1 : upd (fun i => nI (o i)) (nI i).toNatClampNeg (nI v) = fun j => nI (va_up o i v j) := by rw [nI_clamp (by omega)]; exact jp_upN
  rw [e1] at hP1 hD1
  exact kk H1 locs1 ls hP1 hD1 hS1 hl)
theorem jx_g_bs (C : jw_C E cc nL RX0 (tX cA) lev) (hd : decode cc pc = .ok (.getfield 16, 3)) (kk : jw_J E nL (wX h ad cA lc o bs en pr ct dy pn tc tk kp lm n td) (pc + 3) lv (.ref (ad 2) :: st)) : jw_J E nL (wX h ad cA lc o bs en pr ct dy pn tc tk kp lm n td) pc lv (.ref h :: st) := fun H locs ls hP hD hS hl => va_get (D := je_D E) (ci := 0) (v := .ref (ad 2)) (C := RX0) (T := TX0) (N := 14) C.1 C.2.1 C.2.2.2.2.1 in_X0 C.2.2.2.1 C.2.2.2.2.2.1 hP 0 rfl rfl 2 (by decide) (C.2.2.2.2.1 _ q31) (fun _ h9 => h9) rfl hd (kk H locs ls hP hD hS hl)
theorem jx_l_bs (C : jw_C E cc nL own (tX cA) lev) {i : Nat} (hi : i < 14) (hd : decode cc pc = .ok (.iaload, 1)) (kk : jw_J E nL (wX h ad cA lc o bs en pr ct dy pn tc tk kp lm n td) (pc + 1) lv (.int (jp_o (bs i)) :: st)) : jw_J E nL (wX h ad cA lc o bs en pr ct dy pn tc tk kp lm n td) pc lv (.int (nI i) :: .ref (ad 2) :: st) := fun H locs ls hP hD hS hl => va_iald (f := (fun i => jp_o (bs i))) C.1 C.2.1 C.2.2.2.2.2.1 hP 3 2 rfl rfl (vp_in_nI hi (by decide)) hd (by rw [nI_clamp (by omega)]; exact kk H locs ls hP hD hS hl)
theorem jx_s_bs (C : jw_C E cc nL own (tX cA) lev) {i : Nat} {v : Option Nat} (hi : i < 14) (hd : decode cc pc = .ok (.iastore, 1)) (kk : jw_J E nL (wX h ad cA lc o (va_up bs i v) en pr ct dy pn tc tk kp lm n td) (pc + 1) lv st) : jw_J E nL (wX h ad cA lc o bs en pr ct dy pn tc tk kp lm n td) pc lv (.int (jp_o v) :: .int (nI i) :: .ref (ad 2) :: st) := fun H locs ls hP hD hS hl => va_iast (f := (fun i => jp_o (bs i))) C.1 C.2.1 C.2.2.2.2.2.1 hP hD hS 3 2 rfl rfl (vp_in_nI hi (by decide)) hd (fun H1 locs1 hP1 hD1 hS1 => by
  have e1 : upd (fun i => jp_o (bs i)) (nI i).toNatClampNeg (jp_o v) = fun j => jp_o (va_up bs i v j) := by rw [nI_clamp (by omega)]; exact jp_upO
  rw [e1] at hP1 hD1
  exact kk H1 locs1 ls hP1 hD1 hS1 hl)
theorem jx_g_en (C : jw_C E cc nL RX0 (tX cA) lev) (hd : decode cc pc = .ok (.getfield 19, 3)) (kk : jw_J E nL (wX h ad cA lc o bs en pr ct dy pn tc tk kp lm n td) (pc + 3) lv (.ref (ad 3) :: st)) : jw_J E nL (wX h ad cA lc o bs en pr ct dy pn tc tk kp lm n td) pc lv (.ref h :: st) := fun H locs ls hP hD hS hl => va_get (D := je_D E) (ci := 0) (v := .ref (ad 3)) (C := RX0) (T := TX0) (N := 14) C.1 C.2.1 C.2.2.2.2.1 in_X0 C.2.2.2.1 C.2.2.2.2.2.1 hP 0 rfl rfl 3 (by decide) (C.2.2.2.2.1 _ q32) (fun _ h9 => h9) rfl hd (kk H locs ls hP hD hS hl)
theorem jx_l_en (C : jw_C E cc nL own (tX cA) lev) {i : Nat} (hi : i < 14) (hd : decode cc pc = .ok (.iaload, 1)) (kk : jw_J E nL (wX h ad cA lc o bs en pr ct dy pn tc tk kp lm n td) (pc + 1) lv (.int (en i) :: st)) : jw_J E nL (wX h ad cA lc o bs en pr ct dy pn tc tk kp lm n td) pc lv (.int (nI i) :: .ref (ad 3) :: st) := fun H locs ls hP hD hS hl => va_iald (f := en) C.1 C.2.1 C.2.2.2.2.2.1 hP 4 3 rfl rfl (vp_in_nI hi (by decide)) hd (by rw [nI_clamp (by omega)]; exact kk H locs ls hP hD hS hl)
theorem jx_s_en (C : jw_C E cc nL own (tX cA) lev) {i : Nat} {v : Int32} (hi : i < 14) (hd : decode cc pc = .ok (.iastore, 1)) (kk : jw_J E nL (wX h ad cA lc o bs (va_up en i v) pr ct dy pn tc tk kp lm n td) (pc + 1) lv st) : jw_J E nL (wX h ad cA lc o bs en pr ct dy pn tc tk kp lm n td) pc lv (.int (v) :: .int (nI i) :: .ref (ad 3) :: st) := fun H locs ls hP hD hS hl => va_iast (f := en) C.1 C.2.1 C.2.2.2.2.2.1 hP hD hS 4 3 rfl rfl (vp_in_nI hi (by decide)) hd (fun H1 locs1 hP1 hD1 hS1 => by
  have e1 : upd en (nI i).toNatClampNeg (v) = va_up en i v := by rw [nI_clamp (by omega)]; exact rfl
  rw [e1] at hP1 hD1
  exact kk H1 locs1 ls hP1 hD1 hS1 hl)
theorem jx_g_pr (C : jw_C E cc nL RX0 (tX cA) lev) (hd : decode cc pc = .ok (.getfield 22, 3)) (kk : jw_J E nL (wX h ad cA lc o bs en pr ct dy pn tc tk kp lm n td) (pc + 3) lv (.ref (ad 4) :: st)) : jw_J E nL (wX h ad cA lc o bs en pr ct dy pn tc tk kp lm n td) pc lv (.ref h :: st) := fun H locs ls hP hD hS hl => va_get (D := je_D E) (ci := 0) (v := .ref (ad 4)) (C := RX0) (T := TX0) (N := 14) C.1 C.2.1 C.2.2.2.2.1 in_X0 C.2.2.2.1 C.2.2.2.2.2.1 hP 0 rfl rfl 4 (by decide) (C.2.2.2.2.1 _ q33) (fun _ h9 => h9) rfl hd (kk H locs ls hP hD hS hl)
theorem jx_l_pr (C : jw_C E cc nL own (tX cA) lev) {i : Nat} (hi : i < 14) (hd : decode cc pc = .ok (.iaload, 1)) (kk : jw_J E nL (wX h ad cA lc o bs en pr ct dy pn tc tk kp lm n td) (pc + 1) lv (.int (pr i) :: st)) : jw_J E nL (wX h ad cA lc o bs en pr ct dy pn tc tk kp lm n td) pc lv (.int (nI i) :: .ref (ad 4) :: st) := fun H locs ls hP hD hS hl => va_iald (f := pr) C.1 C.2.1 C.2.2.2.2.2.1 hP 5 4 rfl rfl (vp_in_nI hi (by decide)) hd (by rw [nI_clamp (by omega)]; exact kk H locs ls hP hD hS hl)
theorem jx_s_pr (C : jw_C E cc nL own (tX cA) lev) {i : Nat} {v : Int32} (hi : i < 14) (hd : decode cc pc = .ok (.iastore, 1)) (kk : jw_J E nL (wX h ad cA lc o bs en (va_up pr i v) ct dy pn tc tk kp lm n td) (pc + 1) lv st) : jw_J E nL (wX h ad cA lc o bs en pr ct dy pn tc tk kp lm n td) pc lv (.int (v) :: .int (nI i) :: .ref (ad 4) :: st) := fun H locs ls hP hD hS hl => va_iast (f := pr) C.1 C.2.1 C.2.2.2.2.2.1 hP hD hS 5 4 rfl rfl (vp_in_nI hi (by decide)) hd (fun H1 locs1 hP1 hD1 hS1 => by
  have e1 : upd pr (nI i).toNatClampNeg (v) = va_up pr i v := by rw [nI_clamp (by omega)]; exact rfl
  rw [e1] at hP1 hD1
  exact kk H1 locs1 ls hP1 hD1 hS1 hl)
theorem jx_g_ct (C : jw_C E cc nL RX0 (tX cA) lev) (hd : decode cc pc = .ok (.getfield 25, 3)) (kk : jw_J E nL (wX h ad cA lc o bs en pr ct dy pn tc tk kp lm n td) (pc + 3) lv (.ref (ad 5) :: st)) : jw_J E nL (wX h ad cA lc o bs en pr ct dy pn tc tk kp lm n td) pc lv (.ref h :: st) := fun H locs ls hP hD hS hl => va_get (D := je_D E) (ci := 0) (v := .ref (ad 5)) (C := RX0) (T := TX0) (N := 14) C.1 C.2.1 C.2.2.2.2.1 in_X0 C.2.2.2.1 C.2.2.2.2.2.1 hP 0 rfl rfl 5 (by decide) (C.2.2.2.2.1 _ q34) (fun _ h9 => h9) rfl hd (kk H locs ls hP hD hS hl)
theorem jx_l_ct (C : jw_C E cc nL own (tX cA) lev) {i : Nat} (hi : i < 224) (hd : decode cc pc = .ok (.iaload, 1)) (kk : jw_J E nL (wX h ad cA lc o bs en pr ct dy pn tc tk kp lm n td) (pc + 1) lv (.int (ct i) :: st)) : jw_J E nL (wX h ad cA lc o bs en pr ct dy pn tc tk kp lm n td) pc lv (.int (nI i) :: .ref (ad 5) :: st) := fun H locs ls hP hD hS hl => va_iald (f := ct) C.1 C.2.1 C.2.2.2.2.2.1 hP 6 5 rfl rfl (vp_in_nI hi (by decide)) hd (by rw [nI_clamp (by omega)]; exact kk H locs ls hP hD hS hl)
theorem jx_s_ct (C : jw_C E cc nL own (tX cA) lev) {i : Nat} {v : Int32} (hi : i < 224) (hd : decode cc pc = .ok (.iastore, 1)) (kk : jw_J E nL (wX h ad cA lc o bs en pr (va_up ct i v) dy pn tc tk kp lm n td) (pc + 1) lv st) : jw_J E nL (wX h ad cA lc o bs en pr ct dy pn tc tk kp lm n td) pc lv (.int (v) :: .int (nI i) :: .ref (ad 5) :: st) := fun H locs ls hP hD hS hl => va_iast (f := ct) C.1 C.2.1 C.2.2.2.2.2.1 hP hD hS 6 5 rfl rfl (vp_in_nI hi (by decide)) hd (fun H1 locs1 hP1 hD1 hS1 => by
  have e1 : upd ct (nI i).toNatClampNeg (v) = va_up ct i v := by rw [nI_clamp (by omega)]; exact rfl
  rw [e1] at hP1 hD1
  exact kk H1 locs1 ls hP1 hD1 hS1 hl)
theorem jx_g_dy (C : jw_C E cc nL RX0 (tX cA) lev) (hd : decode cc pc = .ok (.getfield 28, 3)) (kk : jw_J E nL (wX h ad cA lc o bs en pr ct dy pn tc tk kp lm n td) (pc + 3) lv (.ref (ad 6) :: st)) : jw_J E nL (wX h ad cA lc o bs en pr ct dy pn tc tk kp lm n td) pc lv (.ref h :: st) := fun H locs ls hP hD hS hl => va_get (D := je_D E) (ci := 0) (v := .ref (ad 6)) (C := RX0) (T := TX0) (N := 14) C.1 C.2.1 C.2.2.2.2.1 in_X0 C.2.2.2.1 C.2.2.2.2.2.1 hP 0 rfl rfl 6 (by decide) (C.2.2.2.2.1 _ q35) (fun _ h9 => h9) rfl hd (kk H locs ls hP hD hS hl)
theorem jx_l_dy (C : jw_C E cc nL own (tX cA) lev) {i : Nat} (hi : i < 14) (hd : decode cc pc = .ok (.iaload, 1)) (kk : jw_J E nL (wX h ad cA lc o bs en pr ct dy pn tc tk kp lm n td) (pc + 1) lv (.int (nI (dy i)) :: st)) : jw_J E nL (wX h ad cA lc o bs en pr ct dy pn tc tk kp lm n td) pc lv (.int (nI i) :: .ref (ad 6) :: st) := fun H locs ls hP hD hS hl => va_iald (f := (fun i => nI (dy i))) C.1 C.2.1 C.2.2.2.2.2.1 hP 7 6 rfl rfl (vp_in_nI hi (by decide)) hd (by rw [nI_clamp (by omega)]; exact kk H locs ls hP hD hS hl)
theorem jx_s_dy (C : jw_C E cc nL own (tX cA) lev) {i : Nat} {v : Nat} (hi : i < 14) (hd : decode cc pc = .ok (.iastore, 1)) (kk : jw_J E nL (wX h ad cA lc o bs en pr ct (va_up dy i v) pn tc tk kp lm n td) (pc + 1) lv st) : jw_J E nL (wX h ad cA lc o bs en pr ct dy pn tc tk kp lm n td) pc lv (.int (nI v) :: .int (nI i) :: .ref (ad 6) :: st) := fun H locs ls hP hD hS hl => va_iast (f := (fun i => nI (dy i))) C.1 C.2.1 C.2.2.2.2.2.1 hP hD hS 7 6 rfl rfl (vp_in_nI hi (by decide)) hd (fun H1 locs1 hP1 hD1 hS1 => by
  have e1 : upd (fun i => nI (dy i)) (nI i).toNatClampNeg (nI v) = fun j => nI (va_up dy i v j) := by rw [nI_clamp (by omega)]; exact jp_upN
  rw [e1] at hP1 hD1
  exact kk H1 locs1 ls hP1 hD1 hS1 hl)
theorem jx_g_pn (C : jw_C E cc nL RX0 (tX cA) lev) (hd : decode cc pc = .ok (.getfield 31, 3)) (kk : jw_J E nL (wX h ad cA lc o bs en pr ct dy pn tc tk kp lm n td) (pc + 3) lv (.ref (ad 7) :: st)) : jw_J E nL (wX h ad cA lc o bs en pr ct dy pn tc tk kp lm n td) pc lv (.ref h :: st) := fun H locs ls hP hD hS hl => va_get (D := je_D E) (ci := 0) (v := .ref (ad 7)) (C := RX0) (T := TX0) (N := 14) C.1 C.2.1 C.2.2.2.2.1 in_X0 C.2.2.2.1 C.2.2.2.2.2.1 hP 0 rfl rfl 7 (by decide) (C.2.2.2.2.1 _ q36) (fun _ h9 => h9) rfl hd (kk H locs ls hP hD hS hl)
theorem jx_l_pn (C : jw_C E cc nL own (tX cA) lev) {i : Nat} (hi : i < 14) (hd : decode cc pc = .ok (.baload, 1)) (kk : jw_J E nL (wX h ad cA lc o bs en pr ct dy pn tc tk kp lm n td) (pc + 1) lv (.int (jp_b (pn i)) :: st)) : jw_J E nL (wX h ad cA lc o bs en pr ct dy pn tc tk kp lm n td) pc lv (.int (nI i) :: .ref (ad 7) :: st) := fun H locs ls hP hD hS hl => va_zald (f := (fun i => jp_b (pn i))) C.1 C.2.1 C.2.2.2.2.2.1 hP 8 7 rfl rfl (vp_in_nI hi (by decide)) hd (by rw [nI_clamp (by omega)]; exact kk H locs ls hP hD hS hl)
theorem jx_s_pn (C : jw_C E cc nL own (tX cA) lev) {i : Nat} {v : Bool} (hi : i < 14) (hd : decode cc pc = .ok (.bastore, 1)) (kk : jw_J E nL (wX h ad cA lc o bs en pr ct dy (va_up pn i v) tc tk kp lm n td) (pc + 1) lv st) : jw_J E nL (wX h ad cA lc o bs en pr ct dy pn tc tk kp lm n td) pc lv (.int (jp_b v) :: .int (nI i) :: .ref (ad 7) :: st) := fun H locs ls hP hD hS hl => va_zast (f := (fun i => jp_b (pn i))) C.1 C.2.1 C.2.2.2.2.2.1 hP hD hS 8 7 rfl rfl (vp_in_nI hi (by decide)) hd (fun H1 locs1 hP1 hD1 hS1 => by
  have e1 : upd (fun i => jp_b (pn i)) (nI i).toNatClampNeg (vp_nar .boolean (jp_b v)) = fun j => jp_b (va_up pn i v j) := by rw [nI_clamp (by omega)]; exact jp_upZ
  rw [e1] at hP1 hD1
  exact kk H1 locs1 ls hP1 hD1 hS1 hl)
theorem jx_g_tc (C : jw_C E cc nL RX0 (tX cA) lev) (hd : decode cc pc = .ok (.getfield 35, 3)) (kk : jw_J E nL (wX h ad cA lc o bs en pr ct dy pn tc tk kp lm n td) (pc + 3) lv (.ref (ad 8) :: st)) : jw_J E nL (wX h ad cA lc o bs en pr ct dy pn tc tk kp lm n td) pc lv (.ref h :: st) := fun H locs ls hP hD hS hl => va_get (D := je_D E) (ci := 0) (v := .ref (ad 8)) (C := RX0) (T := TX0) (N := 14) C.1 C.2.1 C.2.2.2.2.1 in_X0 C.2.2.2.1 C.2.2.2.2.2.1 hP 0 rfl rfl 8 (by decide) (C.2.2.2.2.1 _ q37) (fun _ h9 => h9) rfl hd (kk H locs ls hP hD hS hl)
theorem jx_l_tc (C : jw_C E cc nL own (tX cA) lev) {i : Nat} (hi : i < 14) (hd : decode cc pc = .ok (.iaload, 1)) (kk : jw_J E nL (wX h ad cA lc o bs en pr ct dy pn tc tk kp lm n td) (pc + 1) lv (.int (tc i) :: st)) : jw_J E nL (wX h ad cA lc o bs en pr ct dy pn tc tk kp lm n td) pc lv (.int (nI i) :: .ref (ad 8) :: st) := fun H locs ls hP hD hS hl => va_iald (f := tc) C.1 C.2.1 C.2.2.2.2.2.1 hP 9 8 rfl rfl (vp_in_nI hi (by decide)) hd (by rw [nI_clamp (by omega)]; exact kk H locs ls hP hD hS hl)
theorem jx_s_tc (C : jw_C E cc nL own (tX cA) lev) {i : Nat} {v : Int32} (hi : i < 14) (hd : decode cc pc = .ok (.iastore, 1)) (kk : jw_J E nL (wX h ad cA lc o bs en pr ct dy pn (va_up tc i v) tk kp lm n td) (pc + 1) lv st) : jw_J E nL (wX h ad cA lc o bs en pr ct dy pn tc tk kp lm n td) pc lv (.int (v) :: .int (nI i) :: .ref (ad 8) :: st) := fun H locs ls hP hD hS hl => va_iast (f := tc) C.1 C.2.1 C.2.2.2.2.2.1 hP hD hS 9 8 rfl rfl (vp_in_nI hi (by decide)) hd (fun H1 locs1 hP1 hD1 hS1 => by
  have e1 : upd tc (nI i).toNatClampNeg (v) = va_up tc i v := by rw [nI_clamp (by omega)]; exact rfl
  rw [e1] at hP1 hD1
  exact kk H1 locs1 ls hP1 hD1 hS1 hl)
theorem jx_g_tk (C : jw_C E cc nL RX0 (tX cA) lev) (hd : decode cc pc = .ok (.getfield 38, 3)) (kk : jw_J E nL (wX h ad cA lc o bs en pr ct dy pn tc tk kp lm n td) (pc + 3) lv (.ref (ad 9) :: st)) : jw_J E nL (wX h ad cA lc o bs en pr ct dy pn tc tk kp lm n td) pc lv (.ref h :: st) := fun H locs ls hP hD hS hl => va_get (D := je_D E) (ci := 0) (v := .ref (ad 9)) (C := RX0) (T := TX0) (N := 14) C.1 C.2.1 C.2.2.2.2.1 in_X0 C.2.2.2.1 C.2.2.2.2.2.1 hP 0 rfl rfl 9 (by decide) (C.2.2.2.2.1 _ q38) (fun _ h9 => h9) rfl hd (kk H locs ls hP hD hS hl)
theorem jx_l_tk (C : jw_C E cc nL own (tX cA) lev) {i : Nat} (hi : i < 14) (hd : decode cc pc = .ok (.baload, 1)) (kk : jw_J E nL (wX h ad cA lc o bs en pr ct dy pn tc tk kp lm n td) (pc + 1) lv (.int (jp_b (tk i)) :: st)) : jw_J E nL (wX h ad cA lc o bs en pr ct dy pn tc tk kp lm n td) pc lv (.int (nI i) :: .ref (ad 9) :: st) := fun H locs ls hP hD hS hl => va_zald (f := (fun i => jp_b (tk i))) C.1 C.2.1 C.2.2.2.2.2.1 hP 10 9 rfl rfl (vp_in_nI hi (by decide)) hd (by rw [nI_clamp (by omega)]; exact kk H locs ls hP hD hS hl)
theorem jx_s_tk (C : jw_C E cc nL own (tX cA) lev) {i : Nat} {v : Bool} (hi : i < 14) (hd : decode cc pc = .ok (.bastore, 1)) (kk : jw_J E nL (wX h ad cA lc o bs en pr ct dy pn tc (va_up tk i v) kp lm n td) (pc + 1) lv st) : jw_J E nL (wX h ad cA lc o bs en pr ct dy pn tc tk kp lm n td) pc lv (.int (jp_b v) :: .int (nI i) :: .ref (ad 9) :: st) := fun H locs ls hP hD hS hl => va_zast (f := (fun i => jp_b (tk i))) C.1 C.2.1 C.2.2.2.2.2.1 hP hD hS 10 9 rfl rfl (vp_in_nI hi (by decide)) hd (fun H1 locs1 hP1 hD1 hS1 => by
  have e1 : upd (fun i => jp_b (tk i)) (nI i).toNatClampNeg (vp_nar .boolean (jp_b v)) = fun j => jp_b (va_up tk i v j) := by rw [nI_clamp (by omega)]; exact jp_upZ
  rw [e1] at hP1 hD1
  exact kk H1 locs1 ls hP1 hD1 hS1 hl)
theorem jx_g_kp (C : jw_C E cc nL RX0 (tX cA) lev) (hd : decode cc pc = .ok (.getfield 41, 3)) (kk : jw_J E nL (wX h ad cA lc o bs en pr ct dy pn tc tk kp lm n td) (pc + 3) lv (.ref (ad 10) :: st)) : jw_J E nL (wX h ad cA lc o bs en pr ct dy pn tc tk kp lm n td) pc lv (.ref h :: st) := fun H locs ls hP hD hS hl => va_get (D := je_D E) (ci := 0) (v := .ref (ad 10)) (C := RX0) (T := TX0) (N := 14) C.1 C.2.1 C.2.2.2.2.1 in_X0 C.2.2.2.1 C.2.2.2.2.2.1 hP 0 rfl rfl 10 (by decide) (C.2.2.2.2.1 _ q39) (fun _ h9 => h9) rfl hd (kk H locs ls hP hD hS hl)
theorem jx_l_kp (C : jw_C E cc nL own (tX cA) lev) {i : Nat} (hi : i < 14) (hd : decode cc pc = .ok (.baload, 1)) (kk : jw_J E nL (wX h ad cA lc o bs en pr ct dy pn tc tk kp lm n td) (pc + 1) lv (.int (jp_b (kp i)) :: st)) : jw_J E nL (wX h ad cA lc o bs en pr ct dy pn tc tk kp lm n td) pc lv (.int (nI i) :: .ref (ad 10) :: st) := fun H locs ls hP hD hS hl => va_zald (f := (fun i => jp_b (kp i))) C.1 C.2.1 C.2.2.2.2.2.1 hP 11 10 rfl rfl (vp_in_nI hi (by decide)) hd (by rw [nI_clamp (by omega)]; exact kk H locs ls hP hD hS hl)
theorem jx_s_kp (C : jw_C E cc nL own (tX cA) lev) {i : Nat} {v : Bool} (hi : i < 14) (hd : decode cc pc = .ok (.bastore, 1)) (kk : jw_J E nL (wX h ad cA lc o bs en pr ct dy pn tc tk (va_up kp i v) lm n td) (pc + 1) lv st) : jw_J E nL (wX h ad cA lc o bs en pr ct dy pn tc tk kp lm n td) pc lv (.int (jp_b v) :: .int (nI i) :: .ref (ad 10) :: st) := fun H locs ls hP hD hS hl => va_zast (f := (fun i => jp_b (kp i))) C.1 C.2.1 C.2.2.2.2.2.1 hP hD hS 11 10 rfl rfl (vp_in_nI hi (by decide)) hd (fun H1 locs1 hP1 hD1 hS1 => by
  have e1 : upd (fun i => jp_b (kp i)) (nI i).toNatClampNeg (vp_nar .boolean (jp_b v)) = fun j => jp_b (va_up kp i v j) := by rw [nI_clamp (by omega)]; exact jp_upZ
  rw [e1] at hP1 hD1
  exact kk H1 locs1 ls hP1 hD1 hS1 hl)
theorem jx_g_lm (C : jw_C E cc nL RX0 (tX cA) lev) (hd : decode cc pc = .ok (.getfield 52, 3)) (kk : jw_J E nL (wX h ad cA lc o bs en pr ct dy pn tc tk kp lm n td) (pc + 3) lv (.int lm :: st)) : jw_J E nL (wX h ad cA lc o bs en pr ct dy pn tc tk kp lm n td) pc lv (.ref h :: st) := fun H locs ls hP hD hS hl => va_get (D := je_D E) (ci := 0) (v := .int lm) (C := RX0) (T := TX0) (N := 14) C.1 C.2.1 C.2.2.2.2.1 in_X0 C.2.2.2.1 C.2.2.2.2.2.1 hP 0 rfl rfl 11 (by decide) (C.2.2.2.2.1 _ q40) (fun _ h9 => h9) rfl hd (kk H locs ls hP hD hS hl)
theorem jx_p_lm (C : jw_C E cc nL RX0 (tX cA) lev) {v : Int32} (hd : decode cc pc = .ok (.putfield 52, 3)) (kk : jw_J E nL (wX h ad cA lc o bs en pr ct dy pn tc tk kp v n td) (pc + 3) lv st) : jw_J E nL (wX h ad cA lc o bs en pr ct dy pn tc tk kp lm n td) pc lv (.int (v) :: .ref h :: st) := fun H locs ls hP hD hS hl => va_put (D := je_D E) (ci := 0) (v := .int (v)) (ty := .int) (C := RX0) (T := TX0) (N := 14) C.1 C.2.1 C.2.2.2.2.1 in_X0 tyX0 tyX0_ok nmX0 C.2.2.2.1 C.2.2.2.2.2.1 hP hD hS 0 rfl rfl 11 (by decide) (C.2.2.2.2.1 _ q40) (fun _ h9 => h9) rfl (by decide +kernel) rfl rfl (Nat.le_of_ble_eq_true rfl) hd (fun H1 locs1 hP1 hD1 hS1 => kk H1 locs1 ls hP1 hD1 hS1 hl)
theorem jx_g_n (C : jw_C E cc nL RX0 (tX cA) lev) (hd : decode cc pc = .ok (.getfield 44, 3)) (kk : jw_J E nL (wX h ad cA lc o bs en pr ct dy pn tc tk kp lm n td) (pc + 3) lv (.int (nI n) :: st)) : jw_J E nL (wX h ad cA lc o bs en pr ct dy pn tc tk kp lm n td) pc lv (.ref h :: st) := fun H locs ls hP hD hS hl => va_get (D := je_D E) (ci := 0) (v := .int (nI n)) (C := RX0) (T := TX0) (N := 14) C.1 C.2.1 C.2.2.2.2.1 in_X0 C.2.2.2.1 C.2.2.2.2.2.1 hP 0 rfl rfl 12 (by decide) (C.2.2.2.2.1 _ q41) (fun _ h9 => h9) rfl hd (kk H locs ls hP hD hS hl)
theorem jx_p_n (C : jw_C E cc nL RX0 (tX cA) lev) {v : Nat} (hd : decode cc pc = .ok (.putfield 44, 3)) (kk : jw_J E nL (wX h ad cA lc o bs en pr ct dy pn tc tk kp lm v td) (pc + 3) lv st) : jw_J E nL (wX h ad cA lc o bs en pr ct dy pn tc tk kp lm n td) pc lv (.int (nI v) :: .ref h :: st) := fun H locs ls hP hD hS hl => va_put (D := je_D E) (ci := 0) (v := .int (nI v)) (ty := .int) (C := RX0) (T := TX0) (N := 14) C.1 C.2.1 C.2.2.2.2.1 in_X0 tyX0 tyX0_ok nmX0 C.2.2.2.1 C.2.2.2.2.2.1 hP hD hS 0 rfl rfl 12 (by decide) (C.2.2.2.2.1 _ q41) (fun _ h9 => h9) rfl (by decide +kernel) rfl rfl (Nat.le_of_ble_eq_true rfl) hd (fun H1 locs1 hP1 hD1 hS1 => kk H1 locs1 ls hP1 hD1 hS1 hl)
theorem jx_g_td (C : jw_C E cc nL RX0 (tX cA) lev) (hd : decode cc pc = .ok (.getfield 63, 3)) (kk : jw_J E nL (wX h ad cA lc o bs en pr ct dy pn tc tk kp lm n td) (pc + 3) lv (.int (nI td) :: st)) : jw_J E nL (wX h ad cA lc o bs en pr ct dy pn tc tk kp lm n td) pc lv (.ref h :: st) := fun H locs ls hP hD hS hl => va_get (D := je_D E) (ci := 0) (v := .int (nI td)) (C := RX0) (T := TX0) (N := 14) C.1 C.2.1 C.2.2.2.2.1 in_X0 C.2.2.2.1 C.2.2.2.2.2.1 hP 0 rfl rfl 13 (by decide) (C.2.2.2.2.1 _ q42) (fun _ h9 => h9) rfl hd (kk H locs ls hP hD hS hl)
theorem jx_p_td (C : jw_C E cc nL RX0 (tX cA) lev) {v : Nat} (hd : decode cc pc = .ok (.putfield 63, 3)) (kk : jw_J E nL (wX h ad cA lc o bs en pr ct dy pn tc tk kp lm n v) (pc + 3) lv st) : jw_J E nL (wX h ad cA lc o bs en pr ct dy pn tc tk kp lm n td) pc lv (.int (nI v) :: .ref h :: st) := fun H locs ls hP hD hS hl => va_put (D := je_D E) (ci := 0) (v := .int (nI v)) (ty := .int) (C := RX0) (T := TX0) (N := 14) C.1 C.2.1 C.2.2.2.2.1 in_X0 tyX0 tyX0_ok nmX0 C.2.2.2.1 C.2.2.2.2.2.1 hP hD hS 0 rfl rfl 13 (by decide) (C.2.2.2.2.1 _ q42) (fun _ h9 => h9) rfl (by decide +kernel) rfl rfl (Nat.le_of_ble_eq_true rfl) hd (fun H1 locs1 hP1 hD1 hS1 => kk H1 locs1 ls hP1 hD1 hS1 hl)
end
end
section
/-! the reference's world: its object and its seven arrays; a row a field -/
set_option maxRecDepth 100000
def wM (h : Nat) (ad : Nat → Nat) (cA : Nat → ClassId) (td : Nat) (lt : Nat → Bool) (li : Nat → Int32) (n : Nat) (he : Nat → Bool) (ct : Nat → Int32) (dy : Nat → Nat) (pn : Nat → Bool) (kp : Nat → Bool) : va_W := [(h, .inr (1, [.int (nI td), .ref (ad 0), .ref (ad 1), .int (nI n), .ref (ad 2), .ref (ad 3), .ref (ad 4), .ref (ad 5), .ref (ad 6)])), (ad 0, .inl (cA 0, 16, .inl (fun i => jp_b (lt i)))), (ad 1, .inl (cA 1, 16, .inl li)), (ad 2, .inl (cA 2, 224, .inl (fun i => jp_b (he i)))), (ad 3, .inl (cA 3, 224, .inl ct)), (ad 4, .inl (cA 4, 14, .inl (fun i => nI (dy i)))), (ad 5, .inl (cA 5, 14, .inl (fun i => jp_b (pn i)))), (ad 6, .inl (cA 6, 14, .inl (fun i => jp_b (kp i))))]
def tM (cA : Nat → ClassId) : List (ClassId × FieldType) := [(cA 0, .boolean), (cA 1, .int), (cA 2, .boolean), (cA 3, .int), (cA 4, .int), (cA 5, .boolean), (cA 6, .boolean)]
section
variable {E : je_E} {cc : ByteArray} {nL : Nat} {own : String} {lev : Nat} {pc : Nat} {lv : List (Nat × Value)} {st : List Value} {h : Nat} {ad : Nat → Nat} {cA : Nat → ClassId} {td : Nat} {lt : Nat → Bool} {li : Nat → Int32} {n : Nat} {he : Nat → Bool} {ct : Nat → Int32} {dy : Nat → Nat} {pn : Nat → Bool} {kp : Nat → Bool}
theorem jm_g_td (C : jw_C E cc nL RX1 (tM cA) lev) (hd : decode cc pc = .ok (.getfield 40, 3)) (kk : jw_J E nL (wM h ad cA td lt li n he ct dy pn kp) (pc + 3) lv (.int (nI td) :: st)) : jw_J E nL (wM h ad cA td lt li n he ct dy pn kp) pc lv (.ref h :: st) := fun H locs ls hP hD hS hl => va_get (D := je_D E) (ci := 1) (v := .int (nI td)) (C := RX1) (T := TX1) (N := 9) C.1 C.2.1 C.2.2.2.2.1 in_X1 C.2.2.2.1 C.2.2.2.2.2.1 hP 0 rfl rfl 0 (by decide) (C.2.2.2.2.1 _ q215) (fun _ h9 => h9) rfl hd (kk H locs ls hP hD hS hl)
theorem jm_p_td (C : jw_C E cc nL RX1 (tM cA) lev) {v : Nat} (hd : decode cc pc = .ok (.putfield 40, 3)) (kk : jw_J E nL (wM h ad cA v lt li n he ct dy pn kp) (pc + 3) lv st) : jw_J E nL (wM h ad cA td lt li n he ct dy pn kp) pc lv (.int (nI v) :: .ref h :: st) := fun H locs ls hP hD hS hl => va_put (D := je_D E) (ci := 1) (v := .int (nI v)) (ty := .int) (C := RX1) (T := TX1) (N := 9) C.1 C.2.1 C.2.2.2.2.1 in_X1 tyX1 tyX1_ok nmX1 C.2.2.2.1 C.2.2.2.2.2.1 hP hD hS 0 rfl rfl 0 (by decide) (C.2.2.2.2.1 _ q215) (fun _ h9 => h9) rfl (by decide +kernel) rfl rfl (Nat.le_of_ble_eq_true rfl) hd (fun H1 locs1 hP1 hD1 hS1 => kk H1 locs1 ls hP1 hD1 hS1 hl)
theorem jm_g_lt (C : jw_C E cc nL RX1 (tM cA) lev) (hd : decode cc pc = .ok (.getfield 7, 3)) (kk : jw_J E nL (wM h ad cA td lt li n he ct dy pn kp) (pc + 3) lv (.ref (ad 0) :: st)) : jw_J E nL (wM h ad cA td lt li n he ct dy pn kp) pc lv (.ref h :: st) := fun H locs ls hP hD hS hl => va_get (D := je_D E) (ci := 1) (v := .ref (ad 0)) (C := RX1) (T := TX1) (N := 9) C.1 C.2.1 C.2.2.2.2.1 in_X1 C.2.2.2.1 C.2.2.2.2.2.1 hP 0 rfl rfl 1 (by decide) (C.2.2.2.2.1 _ q216) (fun _ h9 => h9) rfl hd (kk H locs ls hP hD hS hl)
theorem jm_l_lt (C : jw_C E cc nL own (tM cA) lev) {i : Nat} (hi : i < 16) (hd : decode cc pc = .ok (.baload, 1)) (kk : jw_J E nL (wM h ad cA td lt li n he ct dy pn kp) (pc + 1) lv (.int (jp_b (lt i)) :: st)) : jw_J E nL (wM h ad cA td lt li n he ct dy pn kp) pc lv (.int (nI i) :: .ref (ad 0) :: st) := fun H locs ls hP hD hS hl => va_zald (f := (fun i => jp_b (lt i))) C.1 C.2.1 C.2.2.2.2.2.1 hP 1 0 rfl rfl (vp_in_nI hi (by decide)) hd (by rw [nI_clamp (by omega)]; exact kk H locs ls hP hD hS hl)
theorem jm_s_lt (C : jw_C E cc nL own (tM cA) lev) {i : Nat} {v : Bool} (hi : i < 16) (hd : decode cc pc = .ok (.bastore, 1)) (kk : jw_J E nL (wM h ad cA td (va_up lt i v) li n he ct dy pn kp) (pc + 1) lv st) : jw_J E nL (wM h ad cA td lt li n he ct dy pn kp) pc lv (.int (jp_b v) :: .int (nI i) :: .ref (ad 0) :: st) := fun H locs ls hP hD hS hl => va_zast (f := (fun i => jp_b (lt i))) C.1 C.2.1 C.2.2.2.2.2.1 hP hD hS 1 0 rfl rfl (vp_in_nI hi (by decide)) hd (fun H1 locs1 hP1 hD1 hS1 => by
  have e1 : upd (fun i => jp_b (lt i)) (nI i).toNatClampNeg (vp_nar .boolean (jp_b v)) = fun j => jp_b (va_up lt i v j) := by rw [nI_clamp (by omega)]; exact jp_upZ
  rw [e1] at hP1 hD1
  exact kk H1 locs1 ls hP1 hD1 hS1 hl)
theorem jm_g_li (C : jw_C E cc nL RX1 (tM cA) lev) (hd : decode cc pc = .ok (.getfield 13, 3)) (kk : jw_J E nL (wM h ad cA td lt li n he ct dy pn kp) (pc + 3) lv (.ref (ad 1) :: st)) : jw_J E nL (wM h ad cA td lt li n he ct dy pn kp) pc lv (.ref h :: st) := fun H locs ls hP hD hS hl => va_get (D := je_D E) (ci := 1) (v := .ref (ad 1)) (C := RX1) (T := TX1) (N := 9) C.1 C.2.1 C.2.2.2.2.1 in_X1 C.2.2.2.1 C.2.2.2.2.2.1 hP 0 rfl rfl 2 (by decide) (C.2.2.2.2.1 _ q217) (fun _ h9 => h9) rfl hd (kk H locs ls hP hD hS hl)
theorem jm_l_li (C : jw_C E cc nL own (tM cA) lev) {i : Nat} (hi : i < 16) (hd : decode cc pc = .ok (.iaload, 1)) (kk : jw_J E nL (wM h ad cA td lt li n he ct dy pn kp) (pc + 1) lv (.int (li i) :: st)) : jw_J E nL (wM h ad cA td lt li n he ct dy pn kp) pc lv (.int (nI i) :: .ref (ad 1) :: st) := fun H locs ls hP hD hS hl => va_iald (f := li) C.1 C.2.1 C.2.2.2.2.2.1 hP 2 1 rfl rfl (vp_in_nI hi (by decide)) hd (by rw [nI_clamp (by omega)]; exact kk H locs ls hP hD hS hl)
theorem jm_s_li (C : jw_C E cc nL own (tM cA) lev) {i : Nat} {v : Int32} (hi : i < 16) (hd : decode cc pc = .ok (.iastore, 1)) (kk : jw_J E nL (wM h ad cA td lt (va_up li i v) n he ct dy pn kp) (pc + 1) lv st) : jw_J E nL (wM h ad cA td lt li n he ct dy pn kp) pc lv (.int (v) :: .int (nI i) :: .ref (ad 1) :: st) := fun H locs ls hP hD hS hl => va_iast (f := li) C.1 C.2.1 C.2.2.2.2.2.1 hP hD hS 2 1 rfl rfl (vp_in_nI hi (by decide)) hd (fun H1 locs1 hP1 hD1 hS1 => by
  have e1 : upd li (nI i).toNatClampNeg (v) = va_up li i v := by rw [nI_clamp (by omega)]; exact rfl
  rw [e1] at hP1 hD1
  exact kk H1 locs1 ls hP1 hD1 hS1 hl)
theorem jm_g_n (C : jw_C E cc nL RX1 (tM cA) lev) (hd : decode cc pc = .ok (.getfield 32, 3)) (kk : jw_J E nL (wM h ad cA td lt li n he ct dy pn kp) (pc + 3) lv (.int (nI n) :: st)) : jw_J E nL (wM h ad cA td lt li n he ct dy pn kp) pc lv (.ref h :: st) := fun H locs ls hP hD hS hl => va_get (D := je_D E) (ci := 1) (v := .int (nI n)) (C := RX1) (T := TX1) (N := 9) C.1 C.2.1 C.2.2.2.2.1 in_X1 C.2.2.2.1 C.2.2.2.2.2.1 hP 0 rfl rfl 3 (by decide) (C.2.2.2.2.1 _ q218) (fun _ h9 => h9) rfl hd (kk H locs ls hP hD hS hl)
theorem jm_p_n (C : jw_C E cc nL RX1 (tM cA) lev) {v : Nat} (hd : decode cc pc = .ok (.putfield 32, 3)) (kk : jw_J E nL (wM h ad cA td lt li v he ct dy pn kp) (pc + 3) lv st) : jw_J E nL (wM h ad cA td lt li n he ct dy pn kp) pc lv (.int (nI v) :: .ref h :: st) := fun H locs ls hP hD hS hl => va_put (D := je_D E) (ci := 1) (v := .int (nI v)) (ty := .int) (C := RX1) (T := TX1) (N := 9) C.1 C.2.1 C.2.2.2.2.1 in_X1 tyX1 tyX1_ok nmX1 C.2.2.2.1 C.2.2.2.2.2.1 hP hD hS 0 rfl rfl 3 (by decide) (C.2.2.2.2.1 _ q218) (fun _ h9 => h9) rfl (by decide +kernel) rfl rfl (Nat.le_of_ble_eq_true rfl) hd (fun H1 locs1 hP1 hD1 hS1 => kk H1 locs1 ls hP1 hD1 hS1 hl)
theorem jm_g_he (C : jw_C E cc nL RX1 (tM cA) lev) (hd : decode cc pc = .ok (.getfield 17, 3)) (kk : jw_J E nL (wM h ad cA td lt li n he ct dy pn kp) (pc + 3) lv (.ref (ad 2) :: st)) : jw_J E nL (wM h ad cA td lt li n he ct dy pn kp) pc lv (.ref h :: st) := fun H locs ls hP hD hS hl => va_get (D := je_D E) (ci := 1) (v := .ref (ad 2)) (C := RX1) (T := TX1) (N := 9) C.1 C.2.1 C.2.2.2.2.1 in_X1 C.2.2.2.1 C.2.2.2.2.2.1 hP 0 rfl rfl 4 (by decide) (C.2.2.2.2.1 _ q219) (fun _ h9 => h9) rfl hd (kk H locs ls hP hD hS hl)
theorem jm_l_he (C : jw_C E cc nL own (tM cA) lev) {i : Nat} (hi : i < 224) (hd : decode cc pc = .ok (.baload, 1)) (kk : jw_J E nL (wM h ad cA td lt li n he ct dy pn kp) (pc + 1) lv (.int (jp_b (he i)) :: st)) : jw_J E nL (wM h ad cA td lt li n he ct dy pn kp) pc lv (.int (nI i) :: .ref (ad 2) :: st) := fun H locs ls hP hD hS hl => va_zald (f := (fun i => jp_b (he i))) C.1 C.2.1 C.2.2.2.2.2.1 hP 3 2 rfl rfl (vp_in_nI hi (by decide)) hd (by rw [nI_clamp (by omega)]; exact kk H locs ls hP hD hS hl)
theorem jm_s_he (C : jw_C E cc nL own (tM cA) lev) {i : Nat} {v : Bool} (hi : i < 224) (hd : decode cc pc = .ok (.bastore, 1)) (kk : jw_J E nL (wM h ad cA td lt li n (va_up he i v) ct dy pn kp) (pc + 1) lv st) : jw_J E nL (wM h ad cA td lt li n he ct dy pn kp) pc lv (.int (jp_b v) :: .int (nI i) :: .ref (ad 2) :: st) := fun H locs ls hP hD hS hl => va_zast (f := (fun i => jp_b (he i))) C.1 C.2.1 C.2.2.2.2.2.1 hP hD hS 3 2 rfl rfl (vp_in_nI hi (by decide)) hd (fun H1 locs1 hP1 hD1 hS1 => by
  have e1 : upd (fun i => jp_b (he i)) (nI i).toNatClampNeg (vp_nar .boolean (jp_b v)) = fun j => jp_b (va_up he i v j) := by rw [nI_clamp (by omega)]; exact jp_upZ
  rw [e1] at hP1 hD1
  exact kk H1 locs1 ls hP1 hD1 hS1 hl)
theorem jm_g_ct (C : jw_C E cc nL RX1 (tM cA) lev) (hd : decode cc pc = .ok (.getfield 20, 3)) (kk : jw_J E nL (wM h ad cA td lt li n he ct dy pn kp) (pc + 3) lv (.ref (ad 3) :: st)) : jw_J E nL (wM h ad cA td lt li n he ct dy pn kp) pc lv (.ref h :: st) := fun H locs ls hP hD hS hl => va_get (D := je_D E) (ci := 1) (v := .ref (ad 3)) (C := RX1) (T := TX1) (N := 9) C.1 C.2.1 C.2.2.2.2.1 in_X1 C.2.2.2.1 C.2.2.2.2.2.1 hP 0 rfl rfl 5 (by decide) (C.2.2.2.2.1 _ q220) (fun _ h9 => h9) rfl hd (kk H locs ls hP hD hS hl)
theorem jm_l_ct (C : jw_C E cc nL own (tM cA) lev) {i : Nat} (hi : i < 224) (hd : decode cc pc = .ok (.iaload, 1)) (kk : jw_J E nL (wM h ad cA td lt li n he ct dy pn kp) (pc + 1) lv (.int (ct i) :: st)) : jw_J E nL (wM h ad cA td lt li n he ct dy pn kp) pc lv (.int (nI i) :: .ref (ad 3) :: st) := fun H locs ls hP hD hS hl => va_iald (f := ct) C.1 C.2.1 C.2.2.2.2.2.1 hP 4 3 rfl rfl (vp_in_nI hi (by decide)) hd (by rw [nI_clamp (by omega)]; exact kk H locs ls hP hD hS hl)
theorem jm_s_ct (C : jw_C E cc nL own (tM cA) lev) {i : Nat} {v : Int32} (hi : i < 224) (hd : decode cc pc = .ok (.iastore, 1)) (kk : jw_J E nL (wM h ad cA td lt li n he (va_up ct i v) dy pn kp) (pc + 1) lv st) : jw_J E nL (wM h ad cA td lt li n he ct dy pn kp) pc lv (.int (v) :: .int (nI i) :: .ref (ad 3) :: st) := fun H locs ls hP hD hS hl => va_iast (f := ct) C.1 C.2.1 C.2.2.2.2.2.1 hP hD hS 4 3 rfl rfl (vp_in_nI hi (by decide)) hd (fun H1 locs1 hP1 hD1 hS1 => by
  have e1 : upd ct (nI i).toNatClampNeg (v) = va_up ct i v := by rw [nI_clamp (by omega)]; exact rfl
  rw [e1] at hP1 hD1
  exact kk H1 locs1 ls hP1 hD1 hS1 hl)
theorem jm_g_dy (C : jw_C E cc nL RX1 (tM cA) lev) (hd : decode cc pc = .ok (.getfield 23, 3)) (kk : jw_J E nL (wM h ad cA td lt li n he ct dy pn kp) (pc + 3) lv (.ref (ad 4) :: st)) : jw_J E nL (wM h ad cA td lt li n he ct dy pn kp) pc lv (.ref h :: st) := fun H locs ls hP hD hS hl => va_get (D := je_D E) (ci := 1) (v := .ref (ad 4)) (C := RX1) (T := TX1) (N := 9) C.1 C.2.1 C.2.2.2.2.1 in_X1 C.2.2.2.1 C.2.2.2.2.2.1 hP 0 rfl rfl 6 (by decide) (C.2.2.2.2.1 _ q221) (fun _ h9 => h9) rfl hd (kk H locs ls hP hD hS hl)
theorem jm_l_dy (C : jw_C E cc nL own (tM cA) lev) {i : Nat} (hi : i < 14) (hd : decode cc pc = .ok (.iaload, 1)) (kk : jw_J E nL (wM h ad cA td lt li n he ct dy pn kp) (pc + 1) lv (.int (nI (dy i)) :: st)) : jw_J E nL (wM h ad cA td lt li n he ct dy pn kp) pc lv (.int (nI i) :: .ref (ad 4) :: st) := fun H locs ls hP hD hS hl => va_iald (f := (fun i => nI (dy i))) C.1 C.2.1 C.2.2.2.2.2.1 hP 5 4 rfl rfl (vp_in_nI hi (by decide)) hd (by rw [nI_clamp (by omega)]; exact kk H locs ls hP hD hS hl)
theorem jm_s_dy (C : jw_C E cc nL own (tM cA) lev) {i : Nat} {v : Nat} (hi : i < 14) (hd : decode cc pc = .ok (.iastore, 1)) (kk : jw_J E nL (wM h ad cA td lt li n he ct (va_up dy i v) pn kp) (pc + 1) lv st) : jw_J E nL (wM h ad cA td lt li n he ct dy pn kp) pc lv (.int (nI v) :: .int (nI i) :: .ref (ad 4) :: st) := fun H locs ls hP hD hS hl => va_iast (f := (fun i => nI (dy i))) C.1 C.2.1 C.2.2.2.2.2.1 hP hD hS 5 4 rfl rfl (vp_in_nI hi (by decide)) hd (fun H1 locs1 hP1 hD1 hS1 => by
  have e1 : upd (fun i => nI (dy i)) (nI i).toNatClampNeg (nI v) = fun j => nI (va_up dy i v j) := by rw [nI_clamp (by omega)]; exact jp_upN
  rw [e1] at hP1 hD1
  exact kk H1 locs1 ls hP1 hD1 hS1 hl)
theorem jm_g_pn (C : jw_C E cc nL RX1 (tM cA) lev) (hd : decode cc pc = .ok (.getfield 26, 3)) (kk : jw_J E nL (wM h ad cA td lt li n he ct dy pn kp) (pc + 3) lv (.ref (ad 5) :: st)) : jw_J E nL (wM h ad cA td lt li n he ct dy pn kp) pc lv (.ref h :: st) := fun H locs ls hP hD hS hl => va_get (D := je_D E) (ci := 1) (v := .ref (ad 5)) (C := RX1) (T := TX1) (N := 9) C.1 C.2.1 C.2.2.2.2.1 in_X1 C.2.2.2.1 C.2.2.2.2.2.1 hP 0 rfl rfl 7 (by decide) (C.2.2.2.2.1 _ q222) (fun _ h9 => h9) rfl hd (kk H locs ls hP hD hS hl)
theorem jm_l_pn (C : jw_C E cc nL own (tM cA) lev) {i : Nat} (hi : i < 14) (hd : decode cc pc = .ok (.baload, 1)) (kk : jw_J E nL (wM h ad cA td lt li n he ct dy pn kp) (pc + 1) lv (.int (jp_b (pn i)) :: st)) : jw_J E nL (wM h ad cA td lt li n he ct dy pn kp) pc lv (.int (nI i) :: .ref (ad 5) :: st) := fun H locs ls hP hD hS hl => va_zald (f := (fun i => jp_b (pn i))) C.1 C.2.1 C.2.2.2.2.2.1 hP 6 5 rfl rfl (vp_in_nI hi (by decide)) hd (by rw [nI_clamp (by omega)]; exact kk H locs ls hP hD hS hl)
theorem jm_s_pn (C : jw_C E cc nL own (tM cA) lev) {i : Nat} {v : Bool} (hi : i < 14) (hd : decode cc pc = .ok (.bastore, 1)) (kk : jw_J E nL (wM h ad cA td lt li n he ct dy (va_up pn i v) kp) (pc + 1) lv st) : jw_J E nL (wM h ad cA td lt li n he ct dy pn kp) pc lv (.int (jp_b v) :: .int (nI i) :: .ref (ad 5) :: st) := fun H locs ls hP hD hS hl => va_zast (f := (fun i => jp_b (pn i))) C.1 C.2.1 C.2.2.2.2.2.1 hP hD hS 6 5 rfl rfl (vp_in_nI hi (by decide)) hd (fun H1 locs1 hP1 hD1 hS1 => by
  have e1 : upd (fun i => jp_b (pn i)) (nI i).toNatClampNeg (vp_nar .boolean (jp_b v)) = fun j => jp_b (va_up pn i v j) := by rw [nI_clamp (by omega)]; exact jp_upZ
  rw [e1] at hP1 hD1
  exact kk H1 locs1 ls hP1 hD1 hS1 hl)
theorem jm_g_kp (C : jw_C E cc nL RX1 (tM cA) lev) (hd : decode cc pc = .ok (.getfield 29, 3)) (kk : jw_J E nL (wM h ad cA td lt li n he ct dy pn kp) (pc + 3) lv (.ref (ad 6) :: st)) : jw_J E nL (wM h ad cA td lt li n he ct dy pn kp) pc lv (.ref h :: st) := fun H locs ls hP hD hS hl => va_get (D := je_D E) (ci := 1) (v := .ref (ad 6)) (C := RX1) (T := TX1) (N := 9) C.1 C.2.1 C.2.2.2.2.1 in_X1 C.2.2.2.1 C.2.2.2.2.2.1 hP 0 rfl rfl 8 (by decide) (C.2.2.2.2.1 _ q223) (fun _ h9 => h9) rfl hd (kk H locs ls hP hD hS hl)
theorem jm_l_kp (C : jw_C E cc nL own (tM cA) lev) {i : Nat} (hi : i < 14) (hd : decode cc pc = .ok (.baload, 1)) (kk : jw_J E nL (wM h ad cA td lt li n he ct dy pn kp) (pc + 1) lv (.int (jp_b (kp i)) :: st)) : jw_J E nL (wM h ad cA td lt li n he ct dy pn kp) pc lv (.int (nI i) :: .ref (ad 6) :: st) := fun H locs ls hP hD hS hl => va_zald (f := (fun i => jp_b (kp i))) C.1 C.2.1 C.2.2.2.2.2.1 hP 7 6 rfl rfl (vp_in_nI hi (by decide)) hd (by rw [nI_clamp (by omega)]; exact kk H locs ls hP hD hS hl)
theorem jm_s_kp (C : jw_C E cc nL own (tM cA) lev) {i : Nat} {v : Bool} (hi : i < 14) (hd : decode cc pc = .ok (.bastore, 1)) (kk : jw_J E nL (wM h ad cA td lt li n he ct dy pn (va_up kp i v)) (pc + 1) lv st) : jw_J E nL (wM h ad cA td lt li n he ct dy pn kp) pc lv (.int (jp_b v) :: .int (nI i) :: .ref (ad 6) :: st) := fun H locs ls hP hD hS hl => va_zast (f := (fun i => jp_b (kp i))) C.1 C.2.1 C.2.2.2.2.2.1 hP hD hS 7 6 rfl rfl (vp_in_nI hi (by decide)) hd (fun H1 locs1 hP1 hD1 hS1 => by
  have e1 : upd (fun i => jp_b (kp i)) (nI i).toNatClampNeg (vp_nar .boolean (jp_b v)) = fun j => jp_b (va_up kp i v j) := by rw [nI_clamp (by omega)]; exact jp_upZ
  rw [e1] at hP1 hD1
  exact kk H1 locs1 ls hP1 hD1 hS1 hl)
end
end
section
/-! bits (a family of kit/laws/BITS.to-paste) and small numbers -/
set_option maxRecDepth 100000
def bt (x : Int32) (i : Nat) : Bool := x.toBitVec.getLsbD i
theorem b_ext {x y : Int32} (h : ∀ i, i < 32 → bt x i = bt y i) : x = y := Int32.toBitVec_inj.mp (BitVec.eq_of_getLsbD_eq (fun i hi => h i hi))
theorem b_or (x y : Int32) (i : Nat) : bt (x ||| y) i = (bt x i || bt y i) := by unfold bt; rw [Int32.toBitVec_or, BitVec.getLsbD_or]
theorem b_and (x y : Int32) (i : Nat) : bt (x &&& y) i = (bt x i && bt y i) := by unfold bt; rw [Int32.toBitVec_and, BitVec.getLsbD_and]
theorem b_xor (x y : Int32) (i : Nat) : bt (x ^^^ y) i = (bt x i ^^ bt y i) := by unfold bt; rw [Int32.toBitVec_xor, BitVec.getLsbD_xor]
theorem b_big {x : Int32} {i : Nat} (h : 32 ≤ i) : bt x i = false := BitVec.getLsbD_of_ge _ _ h
theorem b_255 (i : Nat) : bt 255 i = decide (i < 8) := by
  rcases Nat.lt_or_ge i 32 with h | h
  · exact (by decide +kernel : ∀ i, i < 32 → bt 255 i = decide (i < 8)) i h
  · rw [b_big h, decide_eq_false (by omega)]
theorem b_65535 (i : Nat) : bt 65535 i = decide (i < 16) := by
  rcases Nat.lt_or_ge i 32 with h | h
  · exact (by decide +kernel : ∀ i, i < 32 → bt 65535 i = decide (i < 16)) i h
  · rw [b_big h, decide_eq_false (by omega)]
theorem b_m1 : ∀ i, i < 32 → bt (-1) i = true := by decide +kernel
theorem b_0 (i : Nat) : bt 0 i = false := BitVec.getLsbD_zero
theorem s_l : ∀ n, n < 32 → ((nI n &&& 31).toBitVec.smod 32).toNat = n := by decide +kernel
theorem s_u : ∀ n, n < 32 → (((nI n).toUInt32 &&& Int32.toUInt32 31).toBitVec % 32).toNat = n := by decide +kernel
theorem b_shl (n : Nat) (hn : n < 32) (x : Int32) {i : Nat} (hi : i < 32) : bt (x <<< (nI n &&& 31)) i = (decide (n ≤ i) && bt x (i - n)) := by
  unfold bt
  rw [Int32.toBitVec_shiftLeft]
  show (x.toBitVec <<< ((nI n &&& 31).toBitVec.smod 32).toNat).getLsbD i = _
  rw [s_l n hn, BitVec.getLsbD_shiftLeft]
  rcases Nat.lt_or_ge i n with h | h
  · simp [h, Nat.not_le.mpr h]
  · simp [hi, h, Nat.not_lt.mpr h]
theorem b_ushr (n : Nat) (hn : n < 32) (x : Int32) (i : Nat) : bt ((x.toUInt32 >>> ((nI n).toUInt32 &&& Int32.toUInt32 31)).toInt32) i = bt x (n + i) := by
  show (x.toUInt32 >>> ((nI n).toUInt32 &&& Int32.toUInt32 31)).toBitVec.getLsbD i = x.toUInt32.toBitVec.getLsbD (n + i)
  rw [UInt32.toBitVec_shiftRight]
  show (x.toUInt32.toBitVec >>> (((nI n).toUInt32 &&& Int32.toUInt32 31).toBitVec % 32).toNat).getLsbD i = _
  rw [s_u n hn, BitVec.getLsbD_ushiftRight]
theorem b_sshr (n : Nat) (hn : n < 32) (x : Int32) {i : Nat} (hi : i < 32) : bt (x >>> (nI n &&& 31)) i = if n + i < 32 then bt x (n + i) else bt x 31 := by
  unfold bt
  rw [Int32.toBitVec_shiftRight]
  show (x.toBitVec.sshiftRight ((nI n &&& 31).toBitVec.smod 32).toNat).getLsbD i = _
  rw [s_l n hn, BitVec.getLsbD_sshiftRight, BitVec.msb_eq_getLsbD_last]
  simp [hi]
theorem jp_bt1 : ∀ i, i < 32 → bt 1 i = decide (i = 0) := by decide +kernel
theorem jp_has {x : Int32} {f : Nat} (hf : f < 16) : (x >>> (nI f &&& 31)) &&& 1 = jp_b (bt x f) := by
  refine b_ext fun i hi => ?_
  rw [b_and, b_sshr f (by omega) x hi, jp_bt1 i hi]
  by_cases h : i = 0
  · subst h
    rw [if_pos (by omega)]
    cases hb : bt x (f + 0) with
    | true => decide
    | false => decide
  · rw [decide_eq_false h, Bool.and_false]
    cases hb : bt x f with
    | true =>
      show false = bt 1 i
      rw [jp_bt1 i hi, decide_eq_false h]
    | false =>
      show false = bt 0 i
      rw [b_0]
theorem jp_bit {f i : Nat} (hf : f < 16) (hi : i < 32) : bt ((1 : Int32) <<< (nI f &&& 31)) i = decide (i = f) := by
  rw [b_shl f (by omega) 1 hi]
  by_cases h : f ≤ i
  · rw [decide_eq_true h, Bool.true_and, jp_bt1 (i - f) (by omega)]
    by_cases e : i = f
    · rw [decide_eq_true e, decide_eq_true (by omega)]
    · rw [decide_eq_false e, decide_eq_false (by omega)]
  · rw [decide_eq_false h, Bool.false_and, decide_eq_false (by omega)]
theorem jp_not {x : Int32} {i : Nat} (hi : i < 32) : bt (x ^^^ (-1)) i = !bt x i := by
  rw [b_xor, b_m1 i hi]
  cases bt x i <;> rfl
/-- an int as an index below n -/
def jp_ix (a : Int32) (n : Nat) : Option Nat := if 0 ≤ a.toInt ∧ a.toInt < n then some a.toInt.toNat else none
theorem jp_ix_some {a : Int32} {n j : Nat} (h : jp_ix a n = some j) : j < n ∧ a = nI j := by
  unfold jp_ix at h
  by_cases c : 0 ≤ a.toInt ∧ a.toInt < n
  · rw [if_pos c] at h
    have e := Option.some.inj h
    have hj : (j : Int) = a.toInt := by omega
    have ha := Int32.toInt_lt a
    refine ⟨by omega, Int32.toInt_inj.mp ?_⟩
    rw [nI_toInt (by omega), hj]
  · rw [if_neg c] at h
    cases h
theorem jp_ix_none {a : Int32} {n : Nat} (h : jp_ix a n = none) : ¬ (0 ≤ a.toInt ∧ a.toInt < n) := by
  unfold jp_ix at h
  intro c
  rw [if_pos c] at h
  cases h
theorem jp_ix_nI {j n : Nat} (h : j < n) (hn : j < 2 ^ 31) : jp_ix (nI j) n = some j := by
  unfold jp_ix
  rw [nI_toInt hn, if_pos (by omega)]
  congr 1
theorem jp_ix_is {a : Int32} {n : Nat} (h : (jp_ix a n).isSome = true) : ∃ j, jp_ix a n = some j ∧ j < n ∧ a = nI j := by
  cases e : jp_ix a n with
  | none => rw [e] at h; cases h
  | some j => exact ⟨j, rfl, jp_ix_some e⟩
theorem jp_ix_isnt {a : Int32} {n : Nat} (h : (jp_ix a n).isSome = false) : jp_ix a n = none := by
  cases e : jp_ix a n with
  | none => rfl
  | some j => rw [e] at h; cases h
/-- how many of a, a + 1 .. (k of them) have P -/
def jp_cnt (P : Nat → Bool) (a : Nat) : Nat → Nat
  | 0 => 0
  | k + 1 => jp_cnt P a k + (if P (a + k) = true then 1 else 0)
theorem jp_cnt_le (P : Nat → Bool) (a : Nat) : ∀ k, jp_cnt P a k ≤ k := by
  intro k
  induction k with
  | zero => exact Nat.le_refl _
  | succ k ih =>
    unfold jp_cnt
    split <;> omega
/-- the same, from the front -/
def jp_cf (P : Nat → Bool) : Nat → Nat → Nat
  | _, 0 => 0
  | a, k + 1 => jp_cf P (a + 1) k + (if P a = true then 1 else 0)
theorem jp_cf_le (P : Nat → Bool) : ∀ k a, jp_cf P a k ≤ k := by
  intro k
  induction k with
  | zero => intro a; exact Nat.le_refl _
  | succ k ih =>
    intro a
    have := ih (a + 1)
    unfold jp_cf
    split <;> omega
def jp_sum (g : Nat → Int32) : Nat → Int32
  | 0 => 0
  | k + 1 => jp_sum g k + g k
/-- place p taken out -/
def jp_sh {α : Type} (f : Nat → α) (p : Nat) : Nat → α := fun q => if q < p then f q else f (q + 1)
end
section
/-! what both sides compute -/
set_option maxRecDepth 100000

/-! the abstract state: the live files, the number of points, what the points hold, their days, their pins, today -/
abbrev jg_G : Type := (Nat → Option Int32) × Nat × (Nat → Nat → Option Int32) × (Nat → Nat) × (Nat → Bool) × Nat
abbrev jg_lv (G : jg_G) : Nat → Option Int32 := G.1
abbrev jg_n (G : jg_G) : Nat := G.2.1
abbrev jg_V (G : jg_G) : Nat → Nat → Option Int32 := G.2.2.1
abbrev jg_dv (G : jg_G) : Nat → Nat := G.2.2.2.1
abbrev jg_pv (G : jg_G) : Nat → Bool := G.2.2.2.2.1
abbrev jg_td (G : jg_G) : Nat := G.2.2.2.2.2
abbrev jg_sl (G : jg_G) (lv : Nat → Option Int32) : jg_G := (lv, G.2)
def jg_rm (G : jg_G) (p : Nat) : jg_G := (jg_lv G, jg_n G - 1, jp_sh (jg_V G) p, jp_sh (jg_dv G) p, jp_sh (jg_pv G) p, jg_td G)
def sp_put (a c : Int32) (G : jg_G) : Int32 × jg_G := match jp_ix a 16 with
  | none => (-1, G)
  | some f => (jp_b (jg_lv G f).isSome, jg_sl G (va_up (jg_lv G) f (some c)))
def sp_delete (a : Int32) (G : jg_G) : Int32 × jg_G := match jp_ix a 16 with
  | none => (-1, G)
  | some f => (jp_b (jg_lv G f).isSome, jg_sl G (va_up (jg_lv G) f none))
def sp_rename (a b : Int32) (G : jg_G) : Int32 × jg_G := match jp_ix a 16, jp_ix b 16 with
  | some f, some g => if f = g then (-2, G) else match jg_lv G f with
    | none => (-3, G)
    | some c => (0, jg_sl G (va_up (va_up (jg_lv G) g (some c)) f none))
  | _, _ => (-1, G)
/-- the live files from f on, up to k, with new contents -/
def sp_rw (lv : Nat → Option Int32) (f : Nat) (c s : Int32) (k : Nat) : Nat → Option Int32 := fun g => if f ≤ g ∧ g < k ∧ (lv g).isSome = true then some (c + nI g * s) else lv g
def sp_rewrite (a c s : Int32) (G : jg_G) : Int32 × jg_G := match jp_ix a 16 with
  | none => (-1, G)
  | some f => (nI (jp_cnt (fun g => (jg_lv G g).isSome) f (16 - f)), jg_sl G (sp_rw (jg_lv G) f c s 16))
def sp_advance (a : Int32) (G : jg_G) : Int32 × jg_G := match jp_ix a 61 with
  | none => (-1, G)
  | some k => if k = 0 then (-1, G) else if 5000 < jg_td G + k then (-2, G) else (nI (jg_td G + k), (jg_lv G, jg_n G, jg_V G, jg_dv G, jg_pv G, jg_td G + k))
def sp_take (a : Int32) (G : jg_G) : Int32 × jg_G := match jp_ix a 3 with
  | none => (-1, G)
  | some _ => if jg_n G = 14 then (-2, G) else (nI (jg_n G), (jg_lv G, jg_n G + 1, va_up (jg_V G) (jg_n G) (jg_lv G), va_up (jg_dv G) (jg_n G) (jg_td G), va_up (jg_pv G) (jg_n G) false, jg_td G))
/-- the first k live files as point p holds them -/
def sp_rs (lv v : Nat → Option Int32) (k : Nat) : Nat → Option Int32 := fun f => if f < k then v f else lv f
/-- two values differ -/
def jp_ne (a b : Option Int32) : Bool := decide (¬ a = b)
def sp_restore (a : Int32) (G : jg_G) : Int32 × jg_G := match jp_ix a (jg_n G) with
  | none => (-1, G)
  | some p => (nI (jp_cnt (fun f => jp_ne (jg_V G p f) (jg_lv G f)) 0 16), jg_sl G (sp_rs (jg_lv G) (jg_V G p) 16))
def sp_restoreFile (a b : Int32) (G : jg_G) : Int32 × jg_G := match jp_ix a (jg_n G) with
  | none => (-1, G)
  | some p => match jp_ix b 16 with
    | none => (-2, G)
    | some f => (jp_b (jp_ne (jg_V G p f) (jg_lv G f)), jg_sl G (va_up (jg_lv G) f (jg_V G p f)))
def sp_pin (a b : Int32) (G : jg_G) : Int32 × jg_G := match jp_ix a (jg_n G) with
  | none => (-1, G)
  | some p => (jp_b (jg_pv G p), (jg_lv G, jg_n G, jg_V G, jg_dv G, va_up (jg_pv G) p (decide (¬ b = 0)), jg_td G))
def sp_forget (a : Int32) (G : jg_G) : Int32 × jg_G := match jp_ix a (jg_n G) with
  | none => (-1, G)
  | some p => if jg_pv G p = true then (-2, G) else (nI (jg_n G - 1), jg_rm G p)
/-- point p is the last of its period -/
def sp_hd (n : Nat) (dv : Nat → Nat) (l p : Nat) : Bool := decide (p + 1 = n) || decide (¬ dv (p + 1) / l = dv p / l)
/-- point p is among the last heads, so many of them -/
def sp_kp (n : Nat) (dv : Nat → Nat) (l most p : Nat) : Bool := sp_hd n dv l p && decide (jp_cf (sp_hd n dv l) (p + 1) (n - 1 - p) < most)
def sp_K (n : Nat) (dv : Nat → Nat) (pv : Nat → Bool) (pl p : Nat) : Bool := (((pv p || decide (p + 1 = n)) || sp_kp n dv 1 (pl / 100) p) || sp_kp n dv 7 (pl / 10 % 10) p) || sp_kp n dv 28 (pl % 10) p
/-- what isn't kept goes, from the last down; how many went -/
def sp_prn (K : Nat → Bool) : Nat → jg_G → Nat → jg_G × Nat
  | 0, G, d => (G, d)
  | p + 1, G, d => if K p = true then sp_prn K p G d else sp_prn K p (jg_rm G p) (d + 1)
def sp_prune (a : Int32) (G : jg_G) : Int32 × jg_G := match jp_ix a 1000 with
  | none => (-1, G)
  | some pl => (nI (sp_prn (sp_K (jg_n G) (jg_dv G) (jg_pv G) pl) (jg_n G) G 0).2, (sp_prn (sp_K (jg_n G) (jg_dv G) (jg_pv G) pl) (jg_n G) G 0).1)
def sp_points (G : jg_G) : Int32 × jg_G := (nI (jg_n G), G)
def sp_dayOf (a : Int32) (G : jg_G) : Int32 × jg_G := match jp_ix a (jg_n G) with
  | none => (-1, G)
  | some p => (nI (jg_dv G p), G)
def sp_pinned (a : Int32) (G : jg_G) : Int32 × jg_G := match jp_ix a (jg_n G) with
  | none => (-1, G)
  | some p => (jp_b (jg_pv G p), G)
def sp_there (a b : Int32) (G : jg_G) : Int32 × jg_G := match jp_ix a (jg_n G) with
  | none => (-1, G)
  | some p => match jp_ix b 16 with
    | none => (-2, G)
    | some f => (jp_b (jg_V G p f).isSome, G)
def sp_content (a b : Int32) (G : jg_G) : Int32 × jg_G := match jp_ix a (jg_n G), jp_ix b 16 with
  | some p, some f => ((jg_V G p f).getD 0, G)
  | _, _ => (0, G)
def sp_liveThere (a : Int32) (G : jg_G) : Int32 × jg_G := match jp_ix a 16 with
  | none => (-1, G)
  | some f => (jp_b (jg_lv G f).isSome, G)
def sp_live (a : Int32) (G : jg_G) : Int32 × jg_G := match jp_ix a 16 with
  | none => (0, G)
  | some f => ((jg_lv G f).getD 0, G)
def sp_differing (a b : Int32) (G : jg_G) : Int32 × jg_G := match jp_ix a (jg_n G), jp_ix b (jg_n G) with
  | some p, some q => (nI (jp_cnt (fun f => jp_ne (jg_V G p f) (jg_V G q f)) 0 16), G)
  | _, _ => (-1, G)
def sp_changedSince (a : Int32) (G : jg_G) : Int32 × jg_G := match jp_ix a (jg_n G) with
  | none => (-1, G)
  | some p => (nI (jp_cnt (fun f => jp_ne (jg_V G p f) (jg_lv G f)) 0 16), G)
def sp_versions (a : Int32) (G : jg_G) : Int32 × jg_G := match jp_ix a 16 with
  | none => (-1, G)
  | some f => (nI (jp_cnt (fun p => jp_ne (jg_V G (p - 1) f) (jg_V G p f)) 1 (jg_n G - 1)), G)
def sp_sum (a : Int32) (G : jg_G) : Int32 × jg_G := match jp_ix a (jg_n G) with
  | none => (0, G)
  | some p => (jp_sum (fun f => (jg_V G p f).getD 0) 16, G)
/-! the relations -/
/-- a file's value: there or not, its contents -/
def jp_vl (b : Bool) (c : Int32) : Option Int32 := cond b (some c) none
def xr_R (G : jg_G) (lc : Nat → Int32) (o : Nat → Nat) (bs : Nat → Option Nat) (en pr ct : Nat → Int32) (dy : Nat → Nat) (pn : Nat → Bool) (tc : Nat → Int32) (tk : Nat → Bool) (lm : Int32) : Prop :=
  jg_n G ≤ 14 ∧ jg_td G ≤ 5000 ∧ (∀ p, p < jg_n G → o p < 14) ∧ (∀ p q, p < jg_n G → q < jg_n G → o p = o q → p = q) ∧ (∀ t, t < 14 → tk t = true → ∃ p, p < jg_n G ∧ o p = t) ∧ (∀ p, p < jg_n G → tk (o p) = true) ∧
  (∀ p, p < jg_n G → dy (o p) = jg_dv G p ∧ pn (o p) = jg_pv G p ∧ jg_dv G p ≤ jg_td G) ∧ (∀ p q, p ≤ q → q < jg_n G → jg_dv G p ≤ jg_dv G q) ∧
  (∀ f, f < 16 → jp_vl (bt lm f) (lc f) = jg_lv G f) ∧
  (∀ p, p < jg_n G → ∀ f, f < 16 → bt (en (o p)) f = true → jp_vl (bt (pr (o p)) f) (ct (16 * o p + f)) = jg_V G p f) ∧
  (∀ p, p < jg_n G → ∀ f, f < 16 → bt (en (o p)) f = false → bt (pr (o p)) f = false ∧ ∃ q, q < p ∧ bs (o p) = some (o q) ∧ jg_V G p f = jg_V G q f) ∧
  (∀ p, p < jg_n G → bs (o p) = none ∨ ∃ q, q < p ∧ bs (o p) = some (o q)) ∧
  (∀ p, p < jg_n G → ∀ f, f < 16 → bt (tc (o p)) f = false → jg_V G p f = jg_lv G f)
/-- the component's cells hold G; kp: its scratch marks -/
def xw_K (h : Nat) (ad : Nat → Nat) (cA : Nat → ClassId) (kp : Nat → Bool) (G : jg_G) (w : va_W) : Prop :=
  ∃ lc o bs en pr ct dy pn tc tk lm, w = wX h ad cA lc o bs en pr ct dy pn tc tk kp lm (jg_n G) (jg_td G) ∧ xr_R G lc o bs en pr ct dy pn tc tk lm
def xw_R (h : Nat) (ad : Nat → Nat) (cA : Nat → ClassId) (G : jg_G) (w : va_W) : Prop := ∃ kp, xw_K h ad cA kp G w
def mr_R (G : jg_G) (lt : Nat → Bool) (li : Nat → Int32) (he : Nat → Bool) (ct : Nat → Int32) (dy : Nat → Nat) (pn : Nat → Bool) : Prop :=
  jg_n G ≤ 14 ∧ jg_td G ≤ 5000 ∧ (∀ p, p < jg_n G → dy p = jg_dv G p ∧ pn p = jg_pv G p ∧ jg_dv G p ≤ jg_td G) ∧ (∀ p q, p ≤ q → q < jg_n G → jg_dv G p ≤ jg_dv G q) ∧
  (∀ f, f < 16 → lt f = (jg_lv G f).isSome ∧ li f = (jg_lv G f).getD 0) ∧
  (∀ p, p < jg_n G → ∀ f, f < 16 → he (16 * p + f) = (jg_V G p f).isSome ∧ ct (16 * p + f) = (jg_V G p f).getD 0)
def mw_K (h : Nat) (ad : Nat → Nat) (cA : Nat → ClassId) (kp : Nat → Bool) (G : jg_G) (w : va_W) : Prop :=
  ∃ lt li he ct dy pn, w = wM h ad cA (jg_td G) lt li (jg_n G) he ct dy pn kp ∧ mr_R G lt li he ct dy pn
def mw_R (h : Nat) (ad : Nat → Nat) (cA : Nat → ClassId) (G : jg_G) (w : va_W) : Prop := ∃ kp, mw_K h ad cA kp G w
/-! parts of the relation -/
section
variable {G : jg_G} {lc : Nat → Int32} {o : Nat → Nat} {bs : Nat → Option Nat} {en pr ct : Nat → Int32} {dy : Nat → Nat} {pn : Nat → Bool} {tc : Nat → Int32} {tk : Nat → Bool} {lm : Int32} {p q t f : Nat}
theorem xr_n (hr : xr_R G lc o bs en pr ct dy pn tc tk lm) : jg_n G ≤ 14 := hr.1
theorem xr_td (hr : xr_R G lc o bs en pr ct dy pn tc tk lm) : jg_td G ≤ 5000 := hr.2.1
theorem xr_o (hr : xr_R G lc o bs en pr ct dy pn tc tk lm) (hp : p < jg_n G) : o p < 14 := hr.2.2.1 p hp
theorem xr_inj (hr : xr_R G lc o bs en pr ct dy pn tc tk lm) (hp : p < jg_n G) (hq : q < jg_n G) (e : o p = o q) : p = q := hr.2.2.2.1 p q hp hq e
theorem xr_tk1 (hr : xr_R G lc o bs en pr ct dy pn tc tk lm) (ht : t < 14) (h : tk t = true) : ∃ p, p < jg_n G ∧ o p = t := hr.2.2.2.2.1 t ht h
theorem xr_tk2 (hr : xr_R G lc o bs en pr ct dy pn tc tk lm) (hp : p < jg_n G) : tk (o p) = true := hr.2.2.2.2.2.1 p hp
theorem xr_dp (hr : xr_R G lc o bs en pr ct dy pn tc tk lm) (hp : p < jg_n G) : dy (o p) = jg_dv G p ∧ pn (o p) = jg_pv G p ∧ jg_dv G p ≤ jg_td G := hr.2.2.2.2.2.2.1 p hp
theorem xr_mono (hr : xr_R G lc o bs en pr ct dy pn tc tk lm) (hpq : p ≤ q) (hq : q < jg_n G) : jg_dv G p ≤ jg_dv G q := hr.2.2.2.2.2.2.2.1 p q hpq hq
theorem xr_lv (hr : xr_R G lc o bs en pr ct dy pn tc tk lm) (hf : f < 16) : jp_vl (bt lm f) (lc f) = jg_lv G f := hr.2.2.2.2.2.2.2.2.1 f hf
theorem xr_E (hr : xr_R G lc o bs en pr ct dy pn tc tk lm) (hp : p < jg_n G) (hf : f < 16) (he : bt (en (o p)) f = true) : jp_vl (bt (pr (o p)) f) (ct (16 * o p + f)) = jg_V G p f := hr.2.2.2.2.2.2.2.2.2.1 p hp f hf he
theorem xr_B (hr : xr_R G lc o bs en pr ct dy pn tc tk lm) (hp : p < jg_n G) (hf : f < 16) (he : bt (en (o p)) f = false) : bt (pr (o p)) f = false ∧ ∃ q, q < p ∧ bs (o p) = some (o q) ∧ jg_V G p f = jg_V G q f := hr.2.2.2.2.2.2.2.2.2.2.1 p hp f hf he
theorem xr_bs (hr : xr_R G lc o bs en pr ct dy pn tc tk lm) (hp : p < jg_n G) : bs (o p) = none ∨ ∃ q, q < p ∧ bs (o p) = some (o q) := hr.2.2.2.2.2.2.2.2.2.2.2.1 p hp
theorem xr_T (hr : xr_R G lc o bs en pr ct dy pn tc tk lm) (hp : p < jg_n G) (hf : f < 16) (ht : bt (tc (o p)) f = false) : jg_V G p f = jg_lv G f := hr.2.2.2.2.2.2.2.2.2.2.2.2 p hp f hf ht
theorem xr_bl (hr : xr_R G lc o bs en pr ct dy pn tc tk lm) (hp : p < jg_n G) : ∀ k, bs (o p) = some k → k < 2 ^ 31 := by
  intro k hk
  rcases xr_bs hr hp with h | ⟨q, hq, h⟩
  · rw [h] at hk; cases hk
  · rw [h] at hk
    have := xr_o hr (p := q) (by omega)
    have e := Option.some.inj hk
    omega
variable {lt : Nat → Bool} {li : Nat → Int32} {he : Nat → Bool}
theorem mr_n (hr : mr_R G lt li he ct dy pn) : jg_n G ≤ 14 := hr.1
theorem mr_td (hr : mr_R G lt li he ct dy pn) : jg_td G ≤ 5000 := hr.2.1
theorem mr_dp (hr : mr_R G lt li he ct dy pn) (hp : p < jg_n G) : dy p = jg_dv G p ∧ pn p = jg_pv G p ∧ jg_dv G p ≤ jg_td G := hr.2.2.1 p hp
theorem mr_mono (hr : mr_R G lt li he ct dy pn) (hpq : p ≤ q) (hq : q < jg_n G) : jg_dv G p ≤ jg_dv G q := hr.2.2.2.1 p q hpq hq
theorem mr_lv (hr : mr_R G lt li he ct dy pn) (hf : f < 16) : lt f = (jg_lv G f).isSome ∧ li f = (jg_lv G f).getD 0 := hr.2.2.2.2.1 f hf
theorem mr_V (hr : mr_R G lt li he ct dy pn) (hp : p < jg_n G) (hf : f < 16) : he (16 * p + f) = (jg_V G p f).isSome ∧ ct (16 * p + f) = (jg_V G p f).getD 0 := hr.2.2.2.2.2 p hp f hf
end
theorem jp_dec (a : Nat) : nI a + Int32.ofInt (-1) = nI a - nI 1 := by
  rw [Int32.sub_eq_add_neg]
  rfl
theorem jp_pred (a : Nat) : nI (a + 1) - nI 1 = nI a := pk_sub (a := a + 1) (b := 1) (by omega)
theorem jp_m1 {a : Nat} (h : a < 2 ^ 31) : ¬ nI a = -1 := by
  intro e
  have h1 : (nI a).toInt = (-1 : Int32).toInt := by rw [e]
  rw [nI_toInt h] at h1
  have h2 : (-1 : Int32).toInt = -1 := by decide
  omega
theorem jp_vl_eq {a b : Bool} {x y : Int32} : jp_vl a x = jp_vl b y ↔ a = b ∧ (a = true → x = y) := by
  cases a <;> cases b <;> simp [jp_vl]
theorem jp_ne_t {a b : Option Int32} (h : ¬ a = b) : jp_ne a b = true := decide_eq_true h
theorem jp_ne_f {a b : Option Int32} (h : a = b) : jp_ne a b = false := decide_eq_false (fun q => q h)
theorem jp_ne_symm (a b : Option Int32) : jp_ne a b = jp_ne b a := by
  by_cases h : a = b
  · rw [jp_ne_f h, jp_ne_f h.symm]
  · rw [jp_ne_t h, jp_ne_t (fun q => h q.symm)]
theorem jp_ne_tt {a b : Option Int32} (h : jp_ne a b = true) : ¬ a = b := of_decide_eq_true h
theorem jp_ne_ff {a b : Option Int32} (h : jp_ne a b = false) : a = b := Decidable.of_not_not (of_decide_eq_false h)
theorem jp_vl_is {b : Bool} {c : Int32} : (jp_vl b c).isSome = b := by cases b <;> rfl
theorem jp_vl_gd {b : Bool} {c : Int32} : (jp_vl b c).getD 0 = if b = true then c else 0 := by cases b <;> rfl
theorem jp_1 : nI 1 = jp_b true := by decide
theorem jp_0 : nI 0 = jp_b false := by decide
/-- out of range: what the checks say -/
theorem jp_ix_abs {a : Int32} {n m : Nat} (hn : n = m + 1) (hm : m < 2 ^ 31) (h : jp_ix a n = none) (h0 : ¬ a < 0) (h1 : a ≤ nI m) : False := by
  have h2 := jp_ix_none h
  rw [Int32.lt_iff_toInt_lt, Int32.toInt_zero] at h0
  rw [Int32.le_iff_toInt_le, nI_toInt hm] at h1
  omega
theorem jp_ix_abs' {a : Int32} {n : Nat} (hm : n < 2 ^ 31) (h : jp_ix a n = none) (h0 : ¬ a < 0) (h1 : ¬ nI n ≤ a) : False := by
  have h2 := jp_ix_none h
  rw [Int32.lt_iff_toInt_lt, Int32.toInt_zero] at h0
  rw [Int32.le_iff_toInt_le, nI_toInt hm] at h1
  omega
end
section
/-! the words of every call -/
set_option maxRecDepth 100000
def R_law : String := "SyntheticChainLaw"
theorem gw_X0_48 : GoodIn lw_all (va_wsS RX0 48 yX0_isFile (ws_ yX0_isFile cX0_isFile 1 (some .boolean))) := lw_S q78 q79 q19 q80
theorem ok_X0_isFile : (yX0_isFile).cls ≠ "java/lang/invoke/MethodHandle" ∧ (yX0_isFile).cls ≠ "java/lang/invoke/VarHandle" ∧ (parseMethodDescriptor (yX0_isFile).desc).map (fun d => d.parameters.length) = some 1 := by decide +kernel
theorem gw_X0_55 : GoodIn lw_all (wsV RX0 55 RX0 yX0_setLive (ws_ yX0_setLive cX0_setLive 6 none)) := lw_V q81 q83 qs0 q19 q84
theorem ok_X0_setLive : (yX0_setLive).cls = RX0 ∧ (yX0_setLive).cls ≠ "java/lang/invoke/MethodHandle" ∧ (yX0_setLive).cls ≠ "java/lang/invoke/VarHandle" ∧ (parseMethodDescriptor (yX0_setLive).desc).map (fun d => d.parameters.length) = some 3 := by decide +kernel
theorem gw_X0_59 : GoodIn lw_all (va_wsS RX0 59 yX0_has (ws_ yX0_has cX0_has 2 (some .boolean))) := lw_S q85 q86 q19 q87
theorem ok_X0_has : (yX0_has).cls ≠ "java/lang/invoke/MethodHandle" ∧ (yX0_has).cls ≠ "java/lang/invoke/VarHandle" ∧ (parseMethodDescriptor (yX0_has).desc).map (fun d => d.parameters.length) = some 2 := by decide +kernel
theorem gw_X0_66 : GoodIn lw_all (wsV RX0 66 RX0 yX0_freeSlot (ws_ yX0_freeSlot cX0_freeSlot 2 (some .int))) := lw_V q108 q110 qs1 q19 q111
theorem ok_X0_freeSlot : (yX0_freeSlot).cls = RX0 ∧ (yX0_freeSlot).cls ≠ "java/lang/invoke/MethodHandle" ∧ (yX0_freeSlot).cls ≠ "java/lang/invoke/VarHandle" ∧ (parseMethodDescriptor (yX0_freeSlot).desc).map (fun d => d.parameters.length) = some 0 := by decide +kernel
theorem gw_X0_70 : GoodIn lw_all (wsV RX0 70 RX0 yX0_baseFor (ws_ yX0_baseFor cX0_baseFor 3 (some .int))) := lw_V q112 q114 qs2 q19 q115
theorem ok_X0_baseFor : (yX0_baseFor).cls = RX0 ∧ (yX0_baseFor).cls ≠ "java/lang/invoke/MethodHandle" ∧ (yX0_baseFor).cls ≠ "java/lang/invoke/VarHandle" ∧ (parseMethodDescriptor (yX0_baseFor).desc).map (fun d => d.parameters.length) = some 1 := by decide +kernel
theorem gw_X0_75 : GoodIn lw_all (wsV RX0 75 RX0 yX0_isPoint (ws_ yX0_isPoint cX0_isPoint 2 (some .boolean))) := lw_V q121 q123 qs3 q19 q124
theorem ok_X0_isPoint : (yX0_isPoint).cls = RX0 ∧ (yX0_isPoint).cls ≠ "java/lang/invoke/MethodHandle" ∧ (yX0_isPoint).cls ≠ "java/lang/invoke/VarHandle" ∧ (parseMethodDescriptor (yX0_isPoint).desc).map (fun d => d.parameters.length) = some 1 := by decide +kernel
theorem gw_X0_78 : GoodIn lw_all (wsV RX0 78 RX0 yX0_bring (ws_ yX0_bring cX0_bring 4 (some .int))) := lw_V q125 q127 qs4 q19 q128
theorem ok_X0_bring : (yX0_bring).cls = RX0 ∧ (yX0_bring).cls ≠ "java/lang/invoke/MethodHandle" ∧ (yX0_bring).cls ≠ "java/lang/invoke/VarHandle" ∧ (parseMethodDescriptor (yX0_bring).desc).map (fun d => d.parameters.length) = some 2 := by decide +kernel
theorem gw_X0_97 : GoodIn lw_all (wsV RX0 97 RX0 yX0_isLive (ws_ yX0_isLive cX0_isLive 4 (some .boolean))) := lw_V q129 q131 qs5 q19 q132
theorem ok_X0_isLive : (yX0_isLive).cls = RX0 ∧ (yX0_isLive).cls ≠ "java/lang/invoke/MethodHandle" ∧ (yX0_isLive).cls ≠ "java/lang/invoke/VarHandle" ∧ (parseMethodDescriptor (yX0_isLive).desc).map (fun d => d.parameters.length) = some 2 := by decide +kernel
theorem gw_X0_90 : GoodIn lw_all (wsV RX0 90 RX0 yX0_holder (ws_ yX0_holder cX0_holder 5 (some .int))) := lw_V q133 q135 qs6 q19 q136
theorem ok_X0_holder : (yX0_holder).cls = RX0 ∧ (yX0_holder).cls ≠ "java/lang/invoke/MethodHandle" ∧ (yX0_holder).cls ≠ "java/lang/invoke/VarHandle" ∧ (parseMethodDescriptor (yX0_holder).desc).map (fun d => d.parameters.length) = some 2 := by decide +kernel
theorem gw_X0_82 : GoodIn lw_all (wsV RX0 82 RX0 yX0_drop (ws_ yX0_drop cX0_drop 6 none)) := lw_V q149 q151 qs7 q19 q152
theorem ok_X0_drop : (yX0_drop).cls = RX0 ∧ (yX0_drop).cls ≠ "java/lang/invoke/MethodHandle" ∧ (yX0_drop).cls ≠ "java/lang/invoke/VarHandle" ∧ (parseMethodDescriptor (yX0_drop).desc).map (fun d => d.parameters.length) = some 1 := by decide +kernel
theorem gw_X0_86 : GoodIn lw_all (wsV RX0 86 RX0 yX0_keepHeads (ws_ yX0_keepHeads cX0_keepHeads 7 none)) := lw_V q157 q159 qs8 q19 q160
theorem ok_X0_keepHeads : (yX0_keepHeads).cls = RX0 ∧ (yX0_keepHeads).cls ≠ "java/lang/invoke/MethodHandle" ∧ (yX0_keepHeads).cls ≠ "java/lang/invoke/VarHandle" ∧ (parseMethodDescriptor (yX0_keepHeads).desc).map (fun d => d.parameters.length) = some 2 := by decide +kernel
theorem gw_X0_93 : GoodIn lw_all (wsV RX0 93 RX0 yX0_differs (ws_ yX0_differs cX0_differs 6 (some .boolean))) := lw_V q193 q195 qs9 q19 q196
theorem ok_X0_differs : (yX0_differs).cls = RX0 ∧ (yX0_differs).cls ≠ "java/lang/invoke/MethodHandle" ∧ (yX0_differs).cls ≠ "java/lang/invoke/VarHandle" ∧ (parseMethodDescriptor (yX0_differs).desc).map (fun d => d.parameters.length) = some 3 := by decide +kernel
theorem gw_X1_36 : GoodIn lw_all (wsV RX1 36 RX1 yX1_badFile (ws_ yX1_badFile cX1_badFile 2 (some .boolean))) := lw_V q247 q249 qs10 q20 q250
theorem ok_X1_badFile : (yX1_badFile).cls = RX1 ∧ (yX1_badFile).cls ≠ "java/lang/invoke/MethodHandle" ∧ (yX1_badFile).cls ≠ "java/lang/invoke/VarHandle" ∧ (parseMethodDescriptor (yX1_badFile).desc).map (fun d => d.parameters.length) = some 1 := by decide +kernel
theorem gw_X1_43 : GoodIn lw_all (wsV RX1 43 RX1 yX1_badPoint (ws_ yX1_badPoint cX1_badPoint 2 (some .boolean))) := lw_V q275 q277 qs11 q20 q278
theorem ok_X1_badPoint : (yX1_badPoint).cls = RX1 ∧ (yX1_badPoint).cls ≠ "java/lang/invoke/MethodHandle" ∧ (yX1_badPoint).cls ≠ "java/lang/invoke/VarHandle" ∧ (parseMethodDescriptor (yX1_badPoint).desc).map (fun d => d.parameters.length) = some 1 := by decide +kernel
theorem gw_X1_46 : GoodIn lw_all (wsV RX1 46 RX1 yX1_changed (ws_ yX1_changed cX1_changed 3 (some .boolean))) := lw_V q279 q281 qs12 q20 q282
theorem ok_X1_changed : (yX1_changed).cls = RX1 ∧ (yX1_changed).cls ≠ "java/lang/invoke/MethodHandle" ∧ (yX1_changed).cls ≠ "java/lang/invoke/VarHandle" ∧ (parseMethodDescriptor (yX1_changed).desc).map (fun d => d.parameters.length) = some 2 := by decide +kernel
theorem gw_X1_50 : GoodIn lw_all (wsV RX1 50 RX1 yX1_back (ws_ yX1_back cX1_back 3 none)) := lw_V q283 q285 qs13 q20 q286
theorem ok_X1_back : (yX1_back).cls = RX1 ∧ (yX1_back).cls ≠ "java/lang/invoke/MethodHandle" ∧ (yX1_back).cls ≠ "java/lang/invoke/VarHandle" ∧ (parseMethodDescriptor (yX1_back).desc).map (fun d => d.parameters.length) = some 2 := by decide +kernel
theorem gw_X1_54 : GoodIn lw_all (wsV RX1 54 RX1 yX1_takeOut (ws_ yX1_takeOut cX1_takeOut 4 none)) := lw_V q299 q301 qs14 q20 q302
theorem ok_X1_takeOut : (yX1_takeOut).cls = RX1 ∧ (yX1_takeOut).cls ≠ "java/lang/invoke/MethodHandle" ∧ (yX1_takeOut).cls ≠ "java/lang/invoke/VarHandle" ∧ (parseMethodDescriptor (yX1_takeOut).desc).map (fun d => d.parameters.length) = some 1 := by decide +kernel
theorem gw_X1_61 : GoodIn lw_all (wsV RX1 61 RX1 yX1_keep (ws_ yX1_keep cX1_keep 5 none)) := lw_V q307 q309 qs15 q20 q310
theorem ok_X1_keep : (yX1_keep).cls = RX1 ∧ (yX1_keep).cls ≠ "java/lang/invoke/MethodHandle" ∧ (yX1_keep).cls ≠ "java/lang/invoke/VarHandle" ∧ (parseMethodDescriptor (yX1_keep).desc).map (fun d => d.parameters.length) = some 2 := by decide +kernel
theorem gw_X1_58 : GoodIn lw_all (wsV RX1 58 RX1 yX1_head (ws_ yX1_head cX1_head 5 (some .boolean))) := lw_V q311 q313 qs16 q20 q314
theorem ok_X1_head : (yX1_head).cls = RX1 ∧ (yX1_head).cls ≠ "java/lang/invoke/MethodHandle" ∧ (yX1_head).cls ≠ "java/lang/invoke/VarHandle" ∧ (parseMethodDescriptor (yX1_head).desc).map (fun d => d.parameters.length) = some 2 := by decide +kernel
theorem gw_X1_64 : GoodIn lw_all (wsV RX1 64 RX1 yX1_differ (ws_ yX1_differ cX1_differ 4 (some .boolean))) := lw_V q347 q349 qs17 q20 q350
theorem ok_X1_differ : (yX1_differ).cls = RX1 ∧ (yX1_differ).cls ≠ "java/lang/invoke/MethodHandle" ∧ (yX1_differ).cls ≠ "java/lang/invoke/VarHandle" ∧ (parseMethodDescriptor (yX1_differ).desc).map (fun d => d.parameters.length) = some 3 := by decide +kernel
theorem gw_L_13 : GoodIn lw_all (wsV R_law 13 RX0 yX0_put (ws_ yX0_put cX0_put 4 (some .int))) := lw_V q74 q75 q76 q19 q77
theorem ok_X0_put : (yX0_put).cls = RX0 ∧ (yX0_put).cls ≠ "java/lang/invoke/MethodHandle" ∧ (yX0_put).cls ≠ "java/lang/invoke/VarHandle" ∧ (parseMethodDescriptor (yX0_put).desc).map (fun d => d.parameters.length) = some 2 := by decide +kernel
theorem gw_L_18 : GoodIn lw_all (wsV R_law 18 RX0 yX0_delete (ws_ yX0_delete cX0_delete 3 (some .int))) := lw_V q88 q89 q90 q19 q91
theorem ok_X0_delete : (yX0_delete).cls = RX0 ∧ (yX0_delete).cls ≠ "java/lang/invoke/MethodHandle" ∧ (yX0_delete).cls ≠ "java/lang/invoke/VarHandle" ∧ (parseMethodDescriptor (yX0_delete).desc).map (fun d => d.parameters.length) = some 1 := by decide +kernel
theorem gw_L_23 : GoodIn lw_all (wsV R_law 23 RX0 yX0_rename (ws_ yX0_rename cX0_rename 3 (some .int))) := lw_V q92 q93 q94 q19 q95
theorem ok_X0_rename : (yX0_rename).cls = RX0 ∧ (yX0_rename).cls ≠ "java/lang/invoke/MethodHandle" ∧ (yX0_rename).cls ≠ "java/lang/invoke/VarHandle" ∧ (parseMethodDescriptor (yX0_rename).desc).map (fun d => d.parameters.length) = some 2 := by decide +kernel
theorem gw_L_27 : GoodIn lw_all (wsV R_law 27 RX0 yX0_rewrite (ws_ yX0_rewrite cX0_rewrite 6 (some .int))) := lw_V q96 q97 q98 q19 q99
theorem ok_X0_rewrite : (yX0_rewrite).cls = RX0 ∧ (yX0_rewrite).cls ≠ "java/lang/invoke/MethodHandle" ∧ (yX0_rewrite).cls ≠ "java/lang/invoke/VarHandle" ∧ (parseMethodDescriptor (yX0_rewrite).desc).map (fun d => d.parameters.length) = some 3 := by decide +kernel
theorem gw_L_32 : GoodIn lw_all (wsV R_law 32 RX0 yX0_advance (ws_ yX0_advance cX0_advance 2 (some .int))) := lw_V q100 q101 q102 q19 q103
theorem ok_X0_advance : (yX0_advance).cls = RX0 ∧ (yX0_advance).cls ≠ "java/lang/invoke/MethodHandle" ∧ (yX0_advance).cls ≠ "java/lang/invoke/VarHandle" ∧ (parseMethodDescriptor (yX0_advance).desc).map (fun d => d.parameters.length) = some 1 := by decide +kernel
theorem gw_L_36 : GoodIn lw_all (wsV R_law 36 RX0 yX0_take (ws_ yX0_take cX0_take 5 (some .int))) := lw_V q104 q105 q106 q19 q107
theorem ok_X0_take : (yX0_take).cls = RX0 ∧ (yX0_take).cls ≠ "java/lang/invoke/MethodHandle" ∧ (yX0_take).cls ≠ "java/lang/invoke/VarHandle" ∧ (parseMethodDescriptor (yX0_take).desc).map (fun d => d.parameters.length) = some 1 := by decide +kernel
theorem gw_L_40 : GoodIn lw_all (wsV R_law 40 RX0 yX0_restore (ws_ yX0_restore cX0_restore 4 (some .int))) := lw_V q117 q118 q119 q19 q120
theorem ok_X0_restore : (yX0_restore).cls = RX0 ∧ (yX0_restore).cls ≠ "java/lang/invoke/MethodHandle" ∧ (yX0_restore).cls ≠ "java/lang/invoke/VarHandle" ∧ (parseMethodDescriptor (yX0_restore).desc).map (fun d => d.parameters.length) = some 1 := by decide +kernel
theorem gw_L_44 : GoodIn lw_all (wsV R_law 44 RX0 yX0_restoreFile (ws_ yX0_restoreFile cX0_restoreFile 3 (some .int))) := lw_V q137 q138 q139 q19 q140
theorem ok_X0_restoreFile : (yX0_restoreFile).cls = RX0 ∧ (yX0_restoreFile).cls ≠ "java/lang/invoke/MethodHandle" ∧ (yX0_restoreFile).cls ≠ "java/lang/invoke/VarHandle" ∧ (parseMethodDescriptor (yX0_restoreFile).desc).map (fun d => d.parameters.length) = some 2 := by decide +kernel
theorem gw_L_48 : GoodIn lw_all (wsV R_law 48 RX0 yX0_pin (ws_ yX0_pin cX0_pin 4 (some .int))) := lw_V q141 q142 q143 q19 q144
theorem ok_X0_pin : (yX0_pin).cls = RX0 ∧ (yX0_pin).cls ≠ "java/lang/invoke/MethodHandle" ∧ (yX0_pin).cls ≠ "java/lang/invoke/VarHandle" ∧ (parseMethodDescriptor (yX0_pin).desc).map (fun d => d.parameters.length) = some 2 := by decide +kernel
theorem gw_L_52 : GoodIn lw_all (wsV R_law 52 RX0 yX0_forget (ws_ yX0_forget cX0_forget 2 (some .int))) := lw_V q145 q146 q147 q19 q148
theorem ok_X0_forget : (yX0_forget).cls = RX0 ∧ (yX0_forget).cls ≠ "java/lang/invoke/MethodHandle" ∧ (yX0_forget).cls ≠ "java/lang/invoke/VarHandle" ∧ (parseMethodDescriptor (yX0_forget).desc).map (fun d => d.parameters.length) = some 1 := by decide +kernel
theorem gw_L_56 : GoodIn lw_all (wsV R_law 56 RX0 yX0_prune (ws_ yX0_prune cX0_prune 4 (some .int))) := lw_V q153 q154 q155 q19 q156
theorem ok_X0_prune : (yX0_prune).cls = RX0 ∧ (yX0_prune).cls ≠ "java/lang/invoke/MethodHandle" ∧ (yX0_prune).cls ≠ "java/lang/invoke/VarHandle" ∧ (parseMethodDescriptor (yX0_prune).desc).map (fun d => d.parameters.length) = some 1 := by decide +kernel
theorem gw_L_60 : GoodIn lw_all (wsV R_law 60 RX0 yX0_points (ws_ yX0_points cX0_points 1 (some .int))) := lw_V q161 q162 q163 q19 q164
theorem ok_X0_points : (yX0_points).cls = RX0 ∧ (yX0_points).cls ≠ "java/lang/invoke/MethodHandle" ∧ (yX0_points).cls ≠ "java/lang/invoke/VarHandle" ∧ (parseMethodDescriptor (yX0_points).desc).map (fun d => d.parameters.length) = some 0 := by decide +kernel
theorem gw_L_65 : GoodIn lw_all (wsV R_law 65 RX0 yX0_dayOf (ws_ yX0_dayOf cX0_dayOf 2 (some .int))) := lw_V q165 q166 q167 q19 q168
theorem ok_X0_dayOf : (yX0_dayOf).cls = RX0 ∧ (yX0_dayOf).cls ≠ "java/lang/invoke/MethodHandle" ∧ (yX0_dayOf).cls ≠ "java/lang/invoke/VarHandle" ∧ (parseMethodDescriptor (yX0_dayOf).desc).map (fun d => d.parameters.length) = some 1 := by decide +kernel
theorem gw_L_69 : GoodIn lw_all (wsV R_law 69 RX0 yX0_pinned (ws_ yX0_pinned cX0_pinned 2 (some .int))) := lw_V q169 q170 q171 q19 q172
theorem ok_X0_pinned : (yX0_pinned).cls = RX0 ∧ (yX0_pinned).cls ≠ "java/lang/invoke/MethodHandle" ∧ (yX0_pinned).cls ≠ "java/lang/invoke/VarHandle" ∧ (parseMethodDescriptor (yX0_pinned).desc).map (fun d => d.parameters.length) = some 1 := by decide +kernel
theorem gw_L_73 : GoodIn lw_all (wsV R_law 73 RX0 yX0_there (ws_ yX0_there cX0_there 4 (some .int))) := lw_V q173 q174 q175 q19 q176
theorem ok_X0_there : (yX0_there).cls = RX0 ∧ (yX0_there).cls ≠ "java/lang/invoke/MethodHandle" ∧ (yX0_there).cls ≠ "java/lang/invoke/VarHandle" ∧ (parseMethodDescriptor (yX0_there).desc).map (fun d => d.parameters.length) = some 2 := by decide +kernel
theorem gw_L_77 : GoodIn lw_all (wsV R_law 77 RX0 yX0_content (ws_ yX0_content cX0_content 4 (some .int))) := lw_V q177 q178 q179 q19 q180
theorem ok_X0_content : (yX0_content).cls = RX0 ∧ (yX0_content).cls ≠ "java/lang/invoke/MethodHandle" ∧ (yX0_content).cls ≠ "java/lang/invoke/VarHandle" ∧ (parseMethodDescriptor (yX0_content).desc).map (fun d => d.parameters.length) = some 2 := by decide +kernel
theorem gw_L_81 : GoodIn lw_all (wsV R_law 81 RX0 yX0_liveThere (ws_ yX0_liveThere cX0_liveThere 2 (some .int))) := lw_V q181 q182 q183 q19 q184
theorem ok_X0_liveThere : (yX0_liveThere).cls = RX0 ∧ (yX0_liveThere).cls ≠ "java/lang/invoke/MethodHandle" ∧ (yX0_liveThere).cls ≠ "java/lang/invoke/VarHandle" ∧ (parseMethodDescriptor (yX0_liveThere).desc).map (fun d => d.parameters.length) = some 1 := by decide +kernel
theorem gw_L_85 : GoodIn lw_all (wsV R_law 85 RX0 yX0_live (ws_ yX0_live cX0_live 2 (some .int))) := lw_V q185 q186 q187 q19 q188
theorem ok_X0_live : (yX0_live).cls = RX0 ∧ (yX0_live).cls ≠ "java/lang/invoke/MethodHandle" ∧ (yX0_live).cls ≠ "java/lang/invoke/VarHandle" ∧ (parseMethodDescriptor (yX0_live).desc).map (fun d => d.parameters.length) = some 1 := by decide +kernel
theorem gw_L_89 : GoodIn lw_all (wsV R_law 89 RX0 yX0_differing (ws_ yX0_differing cX0_differing 5 (some .int))) := lw_V q189 q190 q191 q19 q192
theorem ok_X0_differing : (yX0_differing).cls = RX0 ∧ (yX0_differing).cls ≠ "java/lang/invoke/MethodHandle" ∧ (yX0_differing).cls ≠ "java/lang/invoke/VarHandle" ∧ (parseMethodDescriptor (yX0_differing).desc).map (fun d => d.parameters.length) = some 2 := by decide +kernel
theorem gw_L_93 : GoodIn lw_all (wsV R_law 93 RX0 yX0_changedSince (ws_ yX0_changedSince cX0_changedSince 5 (some .int))) := lw_V q197 q198 q199 q19 q200
theorem ok_X0_changedSince : (yX0_changedSince).cls = RX0 ∧ (yX0_changedSince).cls ≠ "java/lang/invoke/MethodHandle" ∧ (yX0_changedSince).cls ≠ "java/lang/invoke/VarHandle" ∧ (parseMethodDescriptor (yX0_changedSince).desc).map (fun d => d.parameters.length) = some 1 := by decide +kernel
theorem gw_L_97 : GoodIn lw_all (wsV R_law 97 RX0 yX0_versions (ws_ yX0_versions cX0_versions 4 (some .int))) := lw_V q201 q202 q203 q19 q204
theorem ok_X0_versions : (yX0_versions).cls = RX0 ∧ (yX0_versions).cls ≠ "java/lang/invoke/MethodHandle" ∧ (yX0_versions).cls ≠ "java/lang/invoke/VarHandle" ∧ (parseMethodDescriptor (yX0_versions).desc).map (fun d => d.parameters.length) = some 1 := by decide +kernel
theorem gw_L_101 : GoodIn lw_all (wsV R_law 101 RX0 yX0_sum (ws_ yX0_sum cX0_sum 5 (some .int))) := lw_V q205 q206 q207 q19 q208
theorem ok_X0_sum : (yX0_sum).cls = RX0 ∧ (yX0_sum).cls ≠ "java/lang/invoke/MethodHandle" ∧ (yX0_sum).cls ≠ "java/lang/invoke/VarHandle" ∧ (parseMethodDescriptor (yX0_sum).desc).map (fun d => d.parameters.length) = some 1 := by decide +kernel
theorem gw_L_17 : GoodIn lw_all (wsV R_law 17 RX1 yX1_put (ws_ yX1_put cX1_put 4 (some .int))) := lw_V q243 q244 q245 q20 q246
theorem ok_X1_put : (yX1_put).cls = RX1 ∧ (yX1_put).cls ≠ "java/lang/invoke/MethodHandle" ∧ (yX1_put).cls ≠ "java/lang/invoke/VarHandle" ∧ (parseMethodDescriptor (yX1_put).desc).map (fun d => d.parameters.length) = some 2 := by decide +kernel
theorem gw_L_22 : GoodIn lw_all (wsV R_law 22 RX1 yX1_delete (ws_ yX1_delete cX1_delete 3 (some .int))) := lw_V q251 q252 q253 q20 q254
theorem ok_X1_delete : (yX1_delete).cls = RX1 ∧ (yX1_delete).cls ≠ "java/lang/invoke/MethodHandle" ∧ (yX1_delete).cls ≠ "java/lang/invoke/VarHandle" ∧ (parseMethodDescriptor (yX1_delete).desc).map (fun d => d.parameters.length) = some 1 := by decide +kernel
theorem gw_L_26 : GoodIn lw_all (wsV R_law 26 RX1 yX1_rename (ws_ yX1_rename cX1_rename 3 (some .int))) := lw_V q255 q256 q257 q20 q258
theorem ok_X1_rename : (yX1_rename).cls = RX1 ∧ (yX1_rename).cls ≠ "java/lang/invoke/MethodHandle" ∧ (yX1_rename).cls ≠ "java/lang/invoke/VarHandle" ∧ (parseMethodDescriptor (yX1_rename).desc).map (fun d => d.parameters.length) = some 2 := by decide +kernel
theorem gw_L_31 : GoodIn lw_all (wsV R_law 31 RX1 yX1_rewrite (ws_ yX1_rewrite cX1_rewrite 6 (some .int))) := lw_V q259 q260 q261 q20 q262
theorem ok_X1_rewrite : (yX1_rewrite).cls = RX1 ∧ (yX1_rewrite).cls ≠ "java/lang/invoke/MethodHandle" ∧ (yX1_rewrite).cls ≠ "java/lang/invoke/VarHandle" ∧ (parseMethodDescriptor (yX1_rewrite).desc).map (fun d => d.parameters.length) = some 3 := by decide +kernel
theorem gw_L_35 : GoodIn lw_all (wsV R_law 35 RX1 yX1_advance (ws_ yX1_advance cX1_advance 2 (some .int))) := lw_V q263 q264 q265 q20 q266
theorem ok_X1_advance : (yX1_advance).cls = RX1 ∧ (yX1_advance).cls ≠ "java/lang/invoke/MethodHandle" ∧ (yX1_advance).cls ≠ "java/lang/invoke/VarHandle" ∧ (parseMethodDescriptor (yX1_advance).desc).map (fun d => d.parameters.length) = some 1 := by decide +kernel
theorem gw_L_39 : GoodIn lw_all (wsV R_law 39 RX1 yX1_take (ws_ yX1_take cX1_take 4 (some .int))) := lw_V q267 q268 q269 q20 q270
theorem ok_X1_take : (yX1_take).cls = RX1 ∧ (yX1_take).cls ≠ "java/lang/invoke/MethodHandle" ∧ (yX1_take).cls ≠ "java/lang/invoke/VarHandle" ∧ (parseMethodDescriptor (yX1_take).desc).map (fun d => d.parameters.length) = some 1 := by decide +kernel
theorem gw_L_43 : GoodIn lw_all (wsV R_law 43 RX1 yX1_restore (ws_ yX1_restore cX1_restore 4 (some .int))) := lw_V q271 q272 q273 q20 q274
theorem ok_X1_restore : (yX1_restore).cls = RX1 ∧ (yX1_restore).cls ≠ "java/lang/invoke/MethodHandle" ∧ (yX1_restore).cls ≠ "java/lang/invoke/VarHandle" ∧ (parseMethodDescriptor (yX1_restore).desc).map (fun d => d.parameters.length) = some 1 := by decide +kernel
theorem gw_L_47 : GoodIn lw_all (wsV R_law 47 RX1 yX1_restoreFile (ws_ yX1_restoreFile cX1_restoreFile 4 (some .int))) := lw_V q287 q288 q289 q20 q290
theorem ok_X1_restoreFile : (yX1_restoreFile).cls = RX1 ∧ (yX1_restoreFile).cls ≠ "java/lang/invoke/MethodHandle" ∧ (yX1_restoreFile).cls ≠ "java/lang/invoke/VarHandle" ∧ (parseMethodDescriptor (yX1_restoreFile).desc).map (fun d => d.parameters.length) = some 2 := by decide +kernel
theorem gw_L_51 : GoodIn lw_all (wsV R_law 51 RX1 yX1_pin (ws_ yX1_pin cX1_pin 4 (some .int))) := lw_V q291 q292 q293 q20 q294
theorem ok_X1_pin : (yX1_pin).cls = RX1 ∧ (yX1_pin).cls ≠ "java/lang/invoke/MethodHandle" ∧ (yX1_pin).cls ≠ "java/lang/invoke/VarHandle" ∧ (parseMethodDescriptor (yX1_pin).desc).map (fun d => d.parameters.length) = some 2 := by decide +kernel
theorem gw_L_55 : GoodIn lw_all (wsV R_law 55 RX1 yX1_forget (ws_ yX1_forget cX1_forget 2 (some .int))) := lw_V q295 q296 q297 q20 q298
theorem ok_X1_forget : (yX1_forget).cls = RX1 ∧ (yX1_forget).cls ≠ "java/lang/invoke/MethodHandle" ∧ (yX1_forget).cls ≠ "java/lang/invoke/VarHandle" ∧ (parseMethodDescriptor (yX1_forget).desc).map (fun d => d.parameters.length) = some 1 := by decide +kernel
theorem gw_L_59 : GoodIn lw_all (wsV R_law 59 RX1 yX1_prune (ws_ yX1_prune cX1_prune 4 (some .int))) := lw_V q303 q304 q305 q20 q306
theorem ok_X1_prune : (yX1_prune).cls = RX1 ∧ (yX1_prune).cls ≠ "java/lang/invoke/MethodHandle" ∧ (yX1_prune).cls ≠ "java/lang/invoke/VarHandle" ∧ (parseMethodDescriptor (yX1_prune).desc).map (fun d => d.parameters.length) = some 1 := by decide +kernel
theorem gw_L_64 : GoodIn lw_all (wsV R_law 64 RX1 yX1_points (ws_ yX1_points cX1_points 1 (some .int))) := lw_V q315 q316 q317 q20 q318
theorem ok_X1_points : (yX1_points).cls = RX1 ∧ (yX1_points).cls ≠ "java/lang/invoke/MethodHandle" ∧ (yX1_points).cls ≠ "java/lang/invoke/VarHandle" ∧ (parseMethodDescriptor (yX1_points).desc).map (fun d => d.parameters.length) = some 0 := by decide +kernel
theorem gw_L_68 : GoodIn lw_all (wsV R_law 68 RX1 yX1_dayOf (ws_ yX1_dayOf cX1_dayOf 2 (some .int))) := lw_V q319 q320 q321 q20 q322
theorem ok_X1_dayOf : (yX1_dayOf).cls = RX1 ∧ (yX1_dayOf).cls ≠ "java/lang/invoke/MethodHandle" ∧ (yX1_dayOf).cls ≠ "java/lang/invoke/VarHandle" ∧ (parseMethodDescriptor (yX1_dayOf).desc).map (fun d => d.parameters.length) = some 1 := by decide +kernel
theorem gw_L_72 : GoodIn lw_all (wsV R_law 72 RX1 yX1_pinned (ws_ yX1_pinned cX1_pinned 2 (some .int))) := lw_V q323 q324 q325 q20 q326
theorem ok_X1_pinned : (yX1_pinned).cls = RX1 ∧ (yX1_pinned).cls ≠ "java/lang/invoke/MethodHandle" ∧ (yX1_pinned).cls ≠ "java/lang/invoke/VarHandle" ∧ (parseMethodDescriptor (yX1_pinned).desc).map (fun d => d.parameters.length) = some 1 := by decide +kernel
theorem gw_L_76 : GoodIn lw_all (wsV R_law 76 RX1 yX1_there (ws_ yX1_there cX1_there 3 (some .int))) := lw_V q327 q328 q329 q20 q330
theorem ok_X1_there : (yX1_there).cls = RX1 ∧ (yX1_there).cls ≠ "java/lang/invoke/MethodHandle" ∧ (yX1_there).cls ≠ "java/lang/invoke/VarHandle" ∧ (parseMethodDescriptor (yX1_there).desc).map (fun d => d.parameters.length) = some 2 := by decide +kernel
theorem gw_L_80 : GoodIn lw_all (wsV R_law 80 RX1 yX1_content (ws_ yX1_content cX1_content 3 (some .int))) := lw_V q331 q332 q333 q20 q334
theorem ok_X1_content : (yX1_content).cls = RX1 ∧ (yX1_content).cls ≠ "java/lang/invoke/MethodHandle" ∧ (yX1_content).cls ≠ "java/lang/invoke/VarHandle" ∧ (parseMethodDescriptor (yX1_content).desc).map (fun d => d.parameters.length) = some 2 := by decide +kernel
theorem gw_L_84 : GoodIn lw_all (wsV R_law 84 RX1 yX1_liveThere (ws_ yX1_liveThere cX1_liveThere 2 (some .int))) := lw_V q335 q336 q337 q20 q338
theorem ok_X1_liveThere : (yX1_liveThere).cls = RX1 ∧ (yX1_liveThere).cls ≠ "java/lang/invoke/MethodHandle" ∧ (yX1_liveThere).cls ≠ "java/lang/invoke/VarHandle" ∧ (parseMethodDescriptor (yX1_liveThere).desc).map (fun d => d.parameters.length) = some 1 := by decide +kernel
theorem gw_L_88 : GoodIn lw_all (wsV R_law 88 RX1 yX1_live (ws_ yX1_live cX1_live 2 (some .int))) := lw_V q339 q340 q341 q20 q342
theorem ok_X1_live : (yX1_live).cls = RX1 ∧ (yX1_live).cls ≠ "java/lang/invoke/MethodHandle" ∧ (yX1_live).cls ≠ "java/lang/invoke/VarHandle" ∧ (parseMethodDescriptor (yX1_live).desc).map (fun d => d.parameters.length) = some 1 := by decide +kernel
theorem gw_L_92 : GoodIn lw_all (wsV R_law 92 RX1 yX1_differing (ws_ yX1_differing cX1_differing 5 (some .int))) := lw_V q343 q344 q345 q20 q346
theorem ok_X1_differing : (yX1_differing).cls = RX1 ∧ (yX1_differing).cls ≠ "java/lang/invoke/MethodHandle" ∧ (yX1_differing).cls ≠ "java/lang/invoke/VarHandle" ∧ (parseMethodDescriptor (yX1_differing).desc).map (fun d => d.parameters.length) = some 2 := by decide +kernel
theorem gw_L_96 : GoodIn lw_all (wsV R_law 96 RX1 yX1_changedSince (ws_ yX1_changedSince cX1_changedSince 4 (some .int))) := lw_V q351 q352 q353 q20 q354
theorem ok_X1_changedSince : (yX1_changedSince).cls = RX1 ∧ (yX1_changedSince).cls ≠ "java/lang/invoke/MethodHandle" ∧ (yX1_changedSince).cls ≠ "java/lang/invoke/VarHandle" ∧ (parseMethodDescriptor (yX1_changedSince).desc).map (fun d => d.parameters.length) = some 1 := by decide +kernel
theorem gw_L_100 : GoodIn lw_all (wsV R_law 100 RX1 yX1_versions (ws_ yX1_versions cX1_versions 4 (some .int))) := lw_V q355 q356 q357 q20 q358
theorem ok_X1_versions : (yX1_versions).cls = RX1 ∧ (yX1_versions).cls ≠ "java/lang/invoke/MethodHandle" ∧ (yX1_versions).cls ≠ "java/lang/invoke/VarHandle" ∧ (parseMethodDescriptor (yX1_versions).desc).map (fun d => d.parameters.length) = some 1 := by decide +kernel
theorem gw_L_104 : GoodIn lw_all (wsV R_law 104 RX1 yX1_sum (ws_ yX1_sum cX1_sum 4 (some .int))) := lw_V q359 q360 q361 q20 q362
theorem ok_X1_sum : (yX1_sum).cls = RX1 ∧ (yX1_sum).cls ≠ "java/lang/invoke/MethodHandle" ∧ (yX1_sum).cls ≠ "java/lang/invoke/VarHandle" ∧ (parseMethodDescriptor (yX1_sum).desc).map (fun d => d.parameters.length) = some 1 := by decide +kernel
end
section
/-! the component: private methods -/
set_option maxRecDepth 100000
theorem jp_nb (b : Bool) : narrow .boolean (.int (jp_b b)) = .int (jp_b b) := by cases b <;> rfl
section
variable {D : va_G} {E : je_E} {h : Nat} {ad : Nat → Nat} {cA : Nat → ClassId} {tys : List (ClassId × FieldType)} {w : va_W} {lc : Nat → Int32} {o : Nat → Nat} {bs : Nat → Option Nat} {en pr ct : Nat → Int32} {dy : Nat → Nat} {pn : Nat → Bool} {tc : Nat → Int32} {tk kp : Nat → Bool} {lm : Int32} {n td : Nat} {G : jg_G}
/-- has(x, f): bit f of x -/
theorem mX_has (x : Int32) {f : Nat} (hf : f < 16) : jw_Mi yX0_has cX0_has 2 (some .boolean) 0 D tys [.int x, .int (nI f)] w (fun r w' => r = jp_b (bt x f) ∧ w' = w) := by
  refine jw_Mi.of (own := RX0) (by decide) rfl (Nat.le_of_ble_eq_true rfl) (fun v w' hq => by rw [hq.1]; exact jp_nb _) ?_
  intro E hE C hret
  subst hE
  show jw_J E 2 _ 0 [(0, .int x), (1, .int (nI f))] []
  refine jr_iload_n (pc := 0) C dX0_has_0 rfl ?_
  refine jr_iload_n (pc := 1) C dX0_has_1 rfl ?_
  refine jr_ishr (pc := 2) C dX0_has_2 ?_
  refine jr_iconst (pc := 3) (v := nI 1) C dX0_has_3 (by decide) ?_
  refine jr_iand (pc := 4) C dX0_has_4 ?_
  refine jr_top (show (x >>> (nI f &&& 31)) &&& nI 1 = jp_b (bt x f) from jp_has hf) ?_
  refine jr_iconst (pc := 5) (v := jp_b true) C dX0_has_5 (by decide) ?_
  refine jr_icmp_neB (tgt := 13) (pc := 6) C dX0_has_6 (by decide) (fun c_6 => ?_) (fun c_6 => ?_)
  · refine jr_iconst (pc := 13) (v := jp_b false) C dX0_has_13 (by decide) ?_
    exact hret _ _ _ _ dX0_has_14 ⟨by simp [c_6], rfl⟩
  · refine jr_iconst (pc := 9) (v := jp_b true) C dX0_has_9 (by decide) ?_
    refine jr_goto (tgt := 14) (pc := 10) C dX0_has_10 (by decide) ?_
    exact hret _ _ _ _ dX0_has_14 ⟨by simp [c_6], rfl⟩
/-- isFile(a) -/
theorem mX_isFile (a : Int32) : jw_Mi yX0_isFile cX0_isFile 1 (some .boolean) 0 D tys [.int a] w (fun r w' => r = jp_b (jp_ix a 16).isSome ∧ w' = w) := by
  refine jw_Mi.of (own := RX0) (by decide) rfl (Nat.le_of_ble_eq_true rfl) (fun v w' hq => by rw [hq.1]; exact jp_nb _) ?_
  intro E hE C hret
  subst hE
  show jw_J E 1 _ 0 [(0, .int a)] []
  cases hq : jp_ix a 16 with
  | some j =>
    obtain ⟨hj, rfl⟩ := jp_ix_some hq
    refine jr_iload_n (pc := 0) C dX0_isFile_0 rfl ?_
    refine jr_if_ltN (tgt := 14) (pc := 1) C dX0_isFile_1 (by decide) (by omega) ?_
    refine jr_iload_n (pc := 4) C dX0_isFile_4 rfl ?_
    refine jr_bipush (pc := 5) (v := nI 15) C dX0_isFile_5 (by decide) ?_
    refine jr_icmp_gtN (tgt := 14) (pc := 7) C dX0_isFile_7 (by decide) (by omega) (by omega) (fun c_7 => ?_) (fun c_7 => ?_)
    · exfalso; omega
    · refine jr_iconst (pc := 10) (v := jp_b true) C dX0_isFile_10 (by decide) ?_
      refine jr_goto (tgt := 15) (pc := 11) C dX0_isFile_11 (by decide) ?_
      exact hret _ _ _ _ dX0_isFile_15 ⟨by rw [hq]; rfl, rfl⟩
  | none =>
    refine jr_iload_n (pc := 0) C dX0_isFile_0 rfl ?_
    refine jr_if_lt (tgt := 14) (pc := 1) C dX0_isFile_1 (by decide) (fun c_1 => ?_) (fun c_1 => ?_)
    · refine jr_iconst (pc := 14) (v := jp_b false) C dX0_isFile_14 (by decide) ?_
      exact hret _ _ _ _ dX0_isFile_15 ⟨by rw [hq]; rfl, rfl⟩
    · refine jr_iload_n (pc := 4) C dX0_isFile_4 rfl ?_
      refine jr_bipush (pc := 5) (v := nI 15) C dX0_isFile_5 (by decide) ?_
      refine jr_icmp_gt (tgt := 14) (pc := 7) C dX0_isFile_7 (by decide) (fun c_7 => ?_) (fun c_7 => ?_)
      · refine jr_iconst (pc := 14) (v := jp_b false) C dX0_isFile_14 (by decide) ?_
        exact hret _ _ _ _ dX0_isFile_15 ⟨by rw [hq]; rfl, rfl⟩
      · exact absurd (Int32.not_lt.mp c_7) (fun q => jp_ix_abs (m := 15) rfl (by omega) hq c_1 q)
/-- isPoint(a) -/
theorem mX_isPoint (a : Int32) (hn : n ≤ 14) : jw_Mi yX0_isPoint cX0_isPoint 2 (some .boolean) 0 D (tX cA) [.ref h, .int a] (wX h ad cA lc o bs en pr ct dy pn tc tk kp lm n td) (fun r w' => r = jp_b (jp_ix a n).isSome ∧ w' = (wX h ad cA lc o bs en pr ct dy pn tc tk kp lm n td)) := by
  refine jw_Mi.of (own := RX0) (by decide) rfl (Nat.le_of_ble_eq_true rfl) (fun v w' hq => by rw [hq.1]; exact jp_nb _) ?_
  intro E hE C hret
  subst hE
  show jw_J E 2 _ 0 [(0, .ref h), (1, .int a)] []
  cases hq : jp_ix a n with
  | some j =>
    obtain ⟨hj, rfl⟩ := jp_ix_some hq
    refine jr_iload_n (pc := 0) C dX0_isPoint_0 rfl ?_
    refine jr_if_ltN (tgt := 16) (pc := 1) C dX0_isPoint_1 (by decide) (by omega) ?_
    refine jr_iload_n (pc := 4) C dX0_isPoint_4 rfl ?_
    refine jr_aload_n (pc := 5) C dX0_isPoint_5 rfl ?_
    refine jx_g_n (pc := 6) C dX0_isPoint_6 ?_
    refine jr_icmp_geN (tgt := 16) (pc := 9) C dX0_isPoint_9 (by decide) (by omega) (by omega) (fun c_9 => ?_) (fun c_9 => ?_)
    · exfalso; omega
    · refine jr_iconst (pc := 12) (v := jp_b true) C dX0_isPoint_12 (by decide) ?_
      refine jr_goto (tgt := 17) (pc := 13) C dX0_isPoint_13 (by decide) ?_
      exact hret _ _ _ _ dX0_isPoint_17 ⟨by rw [hq]; rfl, rfl⟩
  | none =>
    refine jr_iload_n (pc := 0) C dX0_isPoint_0 rfl ?_
    refine jr_if_lt (tgt := 16) (pc := 1) C dX0_isPoint_1 (by decide) (fun c_1 => ?_) (fun c_1 => ?_)
    · refine jr_iconst (pc := 16) (v := jp_b false) C dX0_isPoint_16 (by decide) ?_
      exact hret _ _ _ _ dX0_isPoint_17 ⟨by rw [hq]; rfl, rfl⟩
    · refine jr_iload_n (pc := 4) C dX0_isPoint_4 rfl ?_
      refine jr_aload_n (pc := 5) C dX0_isPoint_5 rfl ?_
      refine jx_g_n (pc := 6) C dX0_isPoint_6 ?_
      refine jr_icmp_ge (tgt := 16) (pc := 9) C dX0_isPoint_9 (by decide) (fun c_9 => ?_) (fun c_9 => ?_)
      · refine jr_iconst (pc := 16) (v := jp_b false) C dX0_isPoint_16 (by decide) ?_
        exact hret _ _ _ _ dX0_isPoint_17 ⟨by rw [hq]; rfl, rfl⟩
      · exact absurd c_9 (fun q => jp_ix_abs' (by omega) hq c_1 q)
/-- holder's loop -/
theorem mX_holder_loop (C : jw_C E cX0_holder 5 RX0 (tX cA) 1) (hr : xr_R G lc o bs en pr ct dy pn tc tk lm) {f : Nat} (hf : f < 16) {p0 : Nat} (hp0 : p0 < jg_n G) (hret : ∀ pc lv v w', decode cX0_holder pc = .ok (.ireturn, 1) → ((∃ q, q ≤ p0 ∧ v = nI (o q) ∧ bt (en (o q)) f = true ∧ jg_V G q f = jg_V G p0 f) ∧ w' = (wX h ad cA lc o bs en pr ct dy pn tc tk kp lm (jg_n G) (jg_td G))) → jw_J E 5 w' pc lv [.int v]) : ∀ (p k : Nat), k + p ≤ p0 → jg_V G p f = jg_V G p0 f → jw_J E 5 (wX h ad cA lc o bs en pr ct dy pn tc tk kp lm (jg_n G) (jg_td G)) 5 [(0, .ref h), (1, .int (nI (o p0))), (2, .int (nI f)), (3, .int (nI (o p))), (4, .int (nI k))] [] := by
  intro p
  induction p using Nat.strongRecOn with
  | _ p ih =>
    intro k hk hv
    have hn := xr_n hr
    have hop := xr_o hr (p := p) (by omega)
    refine jr_iload (pc := 5) C dX0_holder_5 rfl ?_
    refine jr_bipush (pc := 7) (v := nI 14) C dX0_holder_7 (by decide) ?_
    refine jr_icmp_geN (tgt := 51) (pc := 9) C dX0_holder_9 (by decide) (by omega) (by omega) (fun c_9 => ?_) (fun c_9 => ?_)
    · exfalso; omega
    · refine jr_aload_n (pc := 12) C dX0_holder_12 rfl ?_
      refine jx_g_en (pc := 13) C dX0_holder_13 ?_
      refine jr_iload_n (pc := 16) C dX0_holder_16 rfl ?_
      refine jx_l_en (pc := 17) C (by omega) dX0_holder_17 ?_
      refine jr_iload_n (pc := 18) C dX0_holder_18 rfl ?_
      refine jr_calls (pc := 19) C gw_X0_59 ok_X0_has (mX_has _ (by omega)) rfl (by decide) (by decide) dX0_holder_19 rfl (Nat.le_of_ble_eq_true rfl) ?_
      rintro _ _ ⟨rfl, rfl⟩
      refine jr_if_neB (tgt := 51) (pc := 22) C dX0_holder_22 (by decide) (fun c_22 => ?_) (fun c_22 => ?_)
      · refine jr_iload_n (pc := 51) C dX0_holder_51 rfl ?_
        exact hret _ _ _ _ dX0_holder_52 ⟨⟨p, by omega, rfl, c_22, hv⟩, rfl⟩
      · obtain ⟨-, q, hq, hbq, hvq⟩ := xr_B hr (p := p) (by omega) hf c_22
        have hoq := xr_o hr (p := q) (by omega)
        refine jr_aload_n (pc := 25) C dX0_holder_25 rfl ?_
        refine jx_g_bs (pc := 26) C dX0_holder_26 ?_
        refine jr_iload_n (pc := 29) C dX0_holder_29 rfl ?_
        refine jx_l_bs (pc := 30) C (by omega) dX0_holder_30 ?_
        refine jr_top (show jp_o (bs (o p)) = nI (o q) from by rw [hbq]; rfl) ?_
        refine jr_iconst (pc := 31) (v := (-1)) C dX0_holder_31 (by decide) ?_
        refine jr_icmp_ne (tgt := 38) (pc := 32) C dX0_holder_32 (by decide) (fun c_32 => ?_) (fun c_32 => ?_)
        · refine jr_aload_n (pc := 38) C dX0_holder_38 rfl ?_
          refine jx_g_bs (pc := 39) C dX0_holder_39 ?_
          refine jr_iload_n (pc := 42) C dX0_holder_42 rfl ?_
          refine jx_l_bs (pc := 43) C (by omega) dX0_holder_43 ?_
          refine jr_top (show jp_o (bs (o p)) = nI (o q) from by rw [hbq]; rfl) ?_
          refine jr_istore_n (pc := 44) C dX0_holder_44 (by decide) rfl ?_
          refine jr_inc (pc := 45) C dX0_holder_45 rfl (by decide) rfl ?_
          refine jr_goto (tgt := 5) (pc := 48) C dX0_holder_48 (by decide) ?_
          exact jr_sub (ih q hq (k + 1) (by omega) (by rw [← hvq, hv])) rfl
        · exact absurd c_32 (jp_m1 (by omega))
/-- holder(slot of p, f): the slot of a point q, not behind p, with an entry for f, and of the same value -/
theorem mX_holder (hr : xr_R G lc o bs en pr ct dy pn tc tk lm) {p f : Nat} (hp : p < jg_n G) (hf : f < 16) : jw_Mi yX0_holder cX0_holder 5 (some .int) 1 D (tX cA) [.ref h, .int (nI (o p)), .int (nI f)] (wX h ad cA lc o bs en pr ct dy pn tc tk kp lm (jg_n G) (jg_td G)) (fun r w' => (∃ q, q ≤ p ∧ r = nI (o q) ∧ bt (en (o q)) f = true ∧ jg_V G q f = jg_V G p f) ∧ w' = (wX h ad cA lc o bs en pr ct dy pn tc tk kp lm (jg_n G) (jg_td G))) := by
  refine jw_Mi.of (own := RX0) (by decide) rfl (Nat.le_of_ble_eq_true rfl) (fun _ _ _ => rfl) ?_
  intro E hE C hret
  subst hE
  show jw_J E 5 _ 0 [(0, .ref h), (1, .int (nI (o p))), (2, .int (nI f))] []
  refine jr_iload_n (pc := 0) C dX0_holder_0 rfl ?_
  refine jr_istore_n (pc := 1) C dX0_holder_1 (by decide) rfl ?_
  refine jr_iconst (pc := 2) (v := nI 0) C dX0_holder_2 (by decide) ?_
  refine jr_istore (pc := 3) C dX0_holder_3 (by decide) rfl ?_
  exact mX_holder_loop C hr hf hp hret p 0 (by omega) rfl
/-- isLive(slot of p, f): whether the live file is as point p holds it -/
theorem mX_isLive (hr : xr_R G lc o bs en pr ct dy pn tc tk lm) {p f : Nat} (hp : p < jg_n G) (hf : f < 16) : jw_Mi yX0_isLive cX0_isLive 4 (some .boolean) 2 D (tX cA) [.ref h, .int (nI (o p)), .int (nI f)] (wX h ad cA lc o bs en pr ct dy pn tc tk kp lm (jg_n G) (jg_td G)) (fun r w' => r = jp_b (!jp_ne (jg_V G p f) (jg_lv G f)) ∧ w' = (wX h ad cA lc o bs en pr ct dy pn tc tk kp lm (jg_n G) (jg_td G))) := by
  refine jw_Mi.of (own := RX0) (by decide) rfl (Nat.le_of_ble_eq_true rfl) (fun v w' hq => by rw [hq.1]; exact jp_nb _) ?_
  intro E hE C hret
  subst hE
  show jw_J E 4 _ 0 [(0, .ref h), (1, .int (nI (o p))), (2, .int (nI f))] []
  have hL := xr_lv hr hf
  refine jr_aload_n (pc := 0) C dX0_isLive_0 rfl ?_
  refine jr_iload_n (pc := 1) C dX0_isLive_1 rfl ?_
  refine jr_iload_n (pc := 2) C dX0_isLive_2 rfl ?_
  refine jr_calli (pc := 3) C gw_X0_90 ok_X0_holder (mX_holder hr (by omega) (by omega)) rfl (by decide) (by decide) rfl rfl dX0_isLive_3 rfl (Nat.le_of_ble_eq_true rfl) ?_
  rintro _ _ ⟨⟨q, hq, rfl, he, hv⟩, rfl⟩
  have hoq := xr_o hr (p := q) (by omega)
  have hE := xr_E hr (p := q) (by omega) (by assumption) he
  refine jr_istore_n (pc := 6) C dX0_isLive_6 (by decide) rfl ?_
  refine jr_aload_n (pc := 7) C dX0_isLive_7 rfl ?_
  refine jx_g_pr (pc := 8) C dX0_isLive_8 ?_
  refine jr_iload_n (pc := 11) C dX0_isLive_11 rfl ?_
  refine jx_l_pr (pc := 12) C (by omega) dX0_isLive_12 ?_
  refine jr_iload_n (pc := 13) C dX0_isLive_13 rfl ?_
  refine jr_calls (pc := 14) C gw_X0_59 ok_X0_has (mX_has _ (by omega)) rfl (by decide) (by decide) dX0_isLive_14 rfl (Nat.le_of_ble_eq_true rfl) ?_
  rintro _ _ ⟨rfl, rfl⟩
  refine jr_aload_n (pc := 17) C dX0_isLive_17 rfl ?_
  refine jx_g_lm (pc := 18) C dX0_isLive_18 ?_
  refine jr_iload_n (pc := 21) C dX0_isLive_21 rfl ?_
  refine jr_calls (pc := 22) C gw_X0_59 ok_X0_has (mX_has _ (by omega)) rfl (by decide) (by decide) dX0_isLive_22 rfl (Nat.le_of_ble_eq_true rfl) ?_
  rintro _ _ ⟨rfl, rfl⟩
  refine jr_icmp_eqB (tgt := 30) (pc := 25) C dX0_isLive_25 (by decide) (fun c_25 => ?_) (fun c_25 => ?_)
  · refine jr_aload_n (pc := 30) C dX0_isLive_30 rfl ?_
    refine jx_g_lm (pc := 31) C dX0_isLive_31 ?_
    refine jr_iload_n (pc := 34) C dX0_isLive_34 rfl ?_
    refine jr_calls (pc := 35) C gw_X0_59 ok_X0_has (mX_has _ (by omega)) rfl (by decide) (by decide) dX0_isLive_35 rfl (Nat.le_of_ble_eq_true rfl) ?_
    rintro _ _ ⟨rfl, rfl⟩
    refine jr_if_eqB (tgt := 61) (pc := 38) C dX0_isLive_38 (by decide) (fun c_38 => ?_) (fun c_38 => ?_)
    · refine jr_iconst (pc := 61) (v := jp_b true) C dX0_isLive_61 (by decide) ?_
      refine jr_goto (tgt := 66) (pc := 62) C dX0_isLive_62 (by decide) ?_
      refine hret _ _ _ _ dX0_isLive_66 ?_
      refine ⟨?_, rfl⟩
      rw [← hv, ← hE, ← hL]
      first
        | (rw [jp_ne_f (jp_vl_eq.mpr ⟨c_25, fun q => c_58⟩)]; rfl)
        | (rw [jp_ne_f (jp_vl_eq.mpr ⟨c_25, fun q => absurd q (by rw [c_25, c_38]; decide)⟩)]; rfl)
        | (rw [jp_ne_t (fun q => c_58 ((jp_vl_eq.mp q).2 (by rw [c_25, c_38])))]; rfl)
    · refine jr_aload_n (pc := 41) C dX0_isLive_41 rfl ?_
      refine jx_g_ct (pc := 42) C dX0_isLive_42 ?_
      refine jr_bipush (pc := 45) (v := nI 16) C dX0_isLive_45 (by decide) ?_
      refine jr_iload_n (pc := 47) C dX0_isLive_47 rfl ?_
      refine jr_imulN (pc := 48) C dX0_isLive_48 ?_
      refine jr_iload_n (pc := 49) C dX0_isLive_49 rfl ?_
      refine jr_iaddN (pc := 50) C dX0_isLive_50 ?_
      refine jx_l_ct (pc := 51) C (by omega) dX0_isLive_51 ?_
      refine jr_aload_n (pc := 52) C dX0_isLive_52 rfl ?_
      refine jx_g_lc (pc := 53) C dX0_isLive_53 ?_
      refine jr_iload_n (pc := 56) C dX0_isLive_56 rfl ?_
      refine jx_l_lc (pc := 57) C (by omega) dX0_isLive_57 ?_
      refine jr_icmp_ne (tgt := 65) (pc := 58) C dX0_isLive_58 (by decide) (fun c_58 => ?_) (fun c_58 => ?_)
      · refine jr_iconst (pc := 65) (v := jp_b false) C dX0_isLive_65 (by decide) ?_
        refine hret _ _ _ _ dX0_isLive_66 ?_
        refine ⟨?_, rfl⟩
        rw [← hv, ← hE, ← hL]
        first
          | (rw [jp_ne_f (jp_vl_eq.mpr ⟨c_25, fun q => c_58⟩)]; rfl)
          | (rw [jp_ne_f (jp_vl_eq.mpr ⟨c_25, fun q => absurd q (by rw [c_25, c_38]; decide)⟩)]; rfl)
          | (rw [jp_ne_t (fun q => c_58 ((jp_vl_eq.mp q).2 (by rw [c_25, c_38])))]; rfl)
      · refine jr_iconst (pc := 61) (v := jp_b true) C dX0_isLive_61 (by decide) ?_
        refine jr_goto (tgt := 66) (pc := 62) C dX0_isLive_62 (by decide) ?_
        refine hret _ _ _ _ dX0_isLive_66 ?_
        refine ⟨?_, rfl⟩
        rw [← hv, ← hE, ← hL]
        first
          | (rw [jp_ne_f (jp_vl_eq.mpr ⟨c_25, fun q => c_58⟩)]; rfl)
          | (rw [jp_ne_f (jp_vl_eq.mpr ⟨c_25, fun q => absurd q (by rw [c_25, c_38]; decide)⟩)]; rfl)
          | (rw [jp_ne_t (fun q => c_58 ((jp_vl_eq.mp q).2 (by rw [c_25, c_38])))]; rfl)
  · refine jr_iconst (pc := 28) (v := jp_b false) C dX0_isLive_28 (by decide) ?_
    exact hret _ _ _ _ dX0_isLive_29 ⟨by rw [jp_ne_t (fun q => c_25 (jp_vl_eq.mp (by rw [hE, hL, hv, q])).1)]; rfl, rfl⟩
/-- differs(slot of p, slot of q, f) -/
theorem mX_differs (hr : xr_R G lc o bs en pr ct dy pn tc tk lm) {p q f : Nat} (hp : p < jg_n G) (hq : q < jg_n G) (hf : f < 16) : jw_Mi yX0_differs cX0_differs 6 (some .boolean) 2 D (tX cA) [.ref h, .int (nI (o p)), .int (nI (o q)), .int (nI f)] (wX h ad cA lc o bs en pr ct dy pn tc tk kp lm (jg_n G) (jg_td G)) (fun r w' => r = jp_b (jp_ne (jg_V G p f) (jg_V G q f)) ∧ w' = (wX h ad cA lc o bs en pr ct dy pn tc tk kp lm (jg_n G) (jg_td G))) := by
  refine jw_Mi.of (own := RX0) (by decide) rfl (Nat.le_of_ble_eq_true rfl) (fun v w' hq => by rw [hq.1]; exact jp_nb _) ?_
  intro E hE C hret
  subst hE
  show jw_J E 6 _ 0 [(0, .ref h), (1, .int (nI (o p))), (2, .int (nI (o q))), (3, .int (nI f))] []
  refine jr_aload_n (pc := 0) C dX0_differs_0 rfl ?_
  refine jr_iload_n (pc := 1) C dX0_differs_1 rfl ?_
  refine jr_iload_n (pc := 2) C dX0_differs_2 rfl ?_
  refine jr_calli (pc := 3) C gw_X0_90 ok_X0_holder (mX_holder hr hp hf) rfl (by decide) (by decide) rfl rfl dX0_differs_3 rfl (Nat.le_of_ble_eq_true rfl) ?_
  rintro _ _ ⟨⟨q1, hq1, rfl, he1, hv1⟩, rfl⟩
  have ho1 := xr_o hr (p := q1) (by omega)
  have hE1 := xr_E hr (p := q1) (by omega) hf he1
  refine jr_istore (pc := 6) C dX0_differs_6 (by decide) rfl ?_
  refine jr_aload_n (pc := 8) C dX0_differs_8 rfl ?_
  refine jr_iload_n (pc := 9) C dX0_differs_9 rfl ?_
  refine jr_iload_n (pc := 10) C dX0_differs_10 rfl ?_
  refine jr_calli (pc := 11) C gw_X0_90 ok_X0_holder (mX_holder hr hq hf) rfl (by decide) (by decide) rfl rfl dX0_differs_11 rfl (Nat.le_of_ble_eq_true rfl) ?_
  rintro _ _ ⟨⟨q2, hq2, rfl, he2, hv2⟩, rfl⟩
  have ho2 := xr_o hr (p := q2) (by omega)
  have hE2 := xr_E hr (p := q2) (by omega) hf he2
  refine jr_istore (pc := 14) C dX0_differs_14 (by decide) rfl ?_
  refine jr_iload (pc := 16) C dX0_differs_16 rfl ?_
  refine jr_iload (pc := 18) C dX0_differs_18 rfl ?_
  refine jr_icmp_neN (tgt := 25) (pc := 20) C dX0_differs_20 (by decide) (by omega) (by omega) (fun c_20 => ?_) (fun c_20 => ?_)
  · refine jr_aload_n (pc := 25) C dX0_differs_25 rfl ?_
    refine jx_g_pr (pc := 26) C dX0_differs_26 ?_
    refine jr_iload (pc := 29) C dX0_differs_29 rfl ?_
    refine jx_l_pr (pc := 31) C (by omega) dX0_differs_31 ?_
    refine jr_iload_n (pc := 32) C dX0_differs_32 rfl ?_
    refine jr_calls (pc := 33) C gw_X0_59 ok_X0_has (mX_has _ (by omega)) rfl (by decide) (by decide) dX0_differs_33 rfl (Nat.le_of_ble_eq_true rfl) ?_
    rintro _ _ ⟨rfl, rfl⟩
    refine jr_aload_n (pc := 36) C dX0_differs_36 rfl ?_
    refine jx_g_pr (pc := 37) C dX0_differs_37 ?_
    refine jr_iload (pc := 40) C dX0_differs_40 rfl ?_
    refine jx_l_pr (pc := 42) C (by omega) dX0_differs_42 ?_
    refine jr_iload_n (pc := 43) C dX0_differs_43 rfl ?_
    refine jr_calls (pc := 44) C gw_X0_59 ok_X0_has (mX_has _ (by omega)) rfl (by decide) (by decide) dX0_differs_44 rfl (Nat.le_of_ble_eq_true rfl) ?_
    rintro _ _ ⟨rfl, rfl⟩
    refine jr_icmp_eqB (tgt := 52) (pc := 47) C dX0_differs_47 (by decide) (fun c_47 => ?_) (fun c_47 => ?_)
    · refine jr_aload_n (pc := 52) C dX0_differs_52 rfl ?_
      refine jx_g_pr (pc := 53) C dX0_differs_53 ?_
      refine jr_iload (pc := 56) C dX0_differs_56 rfl ?_
      refine jx_l_pr (pc := 58) C (by omega) dX0_differs_58 ?_
      refine jr_iload_n (pc := 59) C dX0_differs_59 rfl ?_
      refine jr_calls (pc := 60) C gw_X0_59 ok_X0_has (mX_has _ (by omega)) rfl (by decide) (by decide) dX0_differs_60 rfl (Nat.le_of_ble_eq_true rfl) ?_
      rintro _ _ ⟨rfl, rfl⟩
      refine jr_if_eqB (tgt := 97) (pc := 63) C dX0_differs_63 (by decide) (fun c_63 => ?_) (fun c_63 => ?_)
      · refine jr_iconst (pc := 97) (v := jp_b false) C dX0_differs_97 (by decide) ?_
        refine hret _ _ _ _ dX0_differs_98 ?_
        refine ⟨?_, rfl⟩
        rw [← hv1, ← hv2, ← hE1, ← hE2]
        first
          | rw [jp_ne_f (jp_vl_eq.mpr ⟨c_47, fun q => c_90⟩)]
          | rw [jp_ne_f (jp_vl_eq.mpr ⟨c_47, fun q => absurd q (by rw [c_63]; decide)⟩)]
          | rw [jp_ne_t (fun q => c_90 ((jp_vl_eq.mp q).2 c_63))]
      · refine jr_aload_n (pc := 66) C dX0_differs_66 rfl ?_
        refine jx_g_ct (pc := 67) C dX0_differs_67 ?_
        refine jr_bipush (pc := 70) (v := nI 16) C dX0_differs_70 (by decide) ?_
        refine jr_iload (pc := 72) C dX0_differs_72 rfl ?_
        refine jr_imulN (pc := 74) C dX0_differs_74 ?_
        refine jr_iload_n (pc := 75) C dX0_differs_75 rfl ?_
        refine jr_iaddN (pc := 76) C dX0_differs_76 ?_
        refine jx_l_ct (pc := 77) C (by omega) dX0_differs_77 ?_
        refine jr_aload_n (pc := 78) C dX0_differs_78 rfl ?_
        refine jx_g_ct (pc := 79) C dX0_differs_79 ?_
        refine jr_bipush (pc := 82) (v := nI 16) C dX0_differs_82 (by decide) ?_
        refine jr_iload (pc := 84) C dX0_differs_84 rfl ?_
        refine jr_imulN (pc := 86) C dX0_differs_86 ?_
        refine jr_iload_n (pc := 87) C dX0_differs_87 rfl ?_
        refine jr_iaddN (pc := 88) C dX0_differs_88 ?_
        refine jx_l_ct (pc := 89) C (by omega) dX0_differs_89 ?_
        refine jr_icmp_eq (tgt := 97) (pc := 90) C dX0_differs_90 (by decide) (fun c_90 => ?_) (fun c_90 => ?_)
        · refine jr_iconst (pc := 97) (v := jp_b false) C dX0_differs_97 (by decide) ?_
          refine hret _ _ _ _ dX0_differs_98 ?_
          refine ⟨?_, rfl⟩
          rw [← hv1, ← hv2, ← hE1, ← hE2]
          first
            | rw [jp_ne_f (jp_vl_eq.mpr ⟨c_47, fun q => c_90⟩)]
            | rw [jp_ne_f (jp_vl_eq.mpr ⟨c_47, fun q => absurd q (by rw [c_63]; decide)⟩)]
            | rw [jp_ne_t (fun q => c_90 ((jp_vl_eq.mp q).2 c_63))]
        · refine jr_iconst (pc := 93) (v := jp_b true) C dX0_differs_93 (by decide) ?_
          refine jr_goto (tgt := 98) (pc := 94) C dX0_differs_94 (by decide) ?_
          refine hret _ _ _ _ dX0_differs_98 ?_
          refine ⟨?_, rfl⟩
          rw [← hv1, ← hv2, ← hE1, ← hE2]
          first
            | rw [jp_ne_f (jp_vl_eq.mpr ⟨c_47, fun q => c_90⟩)]
            | rw [jp_ne_f (jp_vl_eq.mpr ⟨c_47, fun q => absurd q (by rw [c_63]; decide)⟩)]
            | rw [jp_ne_t (fun q => c_90 ((jp_vl_eq.mp q).2 c_63))]
    · refine jr_iconst (pc := 50) (v := jp_b true) C dX0_differs_50 (by decide) ?_
      exact hret _ _ _ _ dX0_differs_51 ⟨by rw [jp_ne_t (fun q => c_47 (jp_vl_eq.mp (by rw [hE1, hE2, hv1, hv2, q])).1)], rfl⟩
  · refine jr_iconst (pc := 23) (v := jp_b false) C dX0_differs_23 (by decide) ?_
    exact hret _ _ _ _ dX0_differs_24 ⟨by rw [jp_ne_f (by rw [← hv1, ← hv2, xr_inj hr (by omega) (by omega) c_20])], rfl⟩
end
end
section
/-! the component: setLive, bring -/
set_option maxRecDepth 100000
theorem jg_same {G : jg_G} {f : Nat} {v : Option Int32} (h : jg_lv G f = v) : jg_sl G (va_up (jg_lv G) f v) = G := by
  have e : va_up (jg_lv G) f v = jg_lv G := by
    funext g
    unfold va_up
    split
    · next q => rw [q, h]
    · rfl
  show (va_up (jg_lv G) f v, G.2) = G
  rw [e]
theorem xr_set {G : jg_G} {lc lc' : Nat → Int32} {o : Nat → Nat} {bs : Nat → Option Nat} {en pr ct : Nat → Int32} {dy : Nat → Nat} {pn : Nat → Bool} {tc tc' : Nat → Int32} {tk : Nat → Bool} {lm lm' : Int32} (hr : xr_R G lc o bs en pr ct dy pn tc tk lm) {f : Nat} {v : Option Int32}
    (h1 : ∀ g, g < 16 → jp_vl (bt lm' g) (lc' g) = va_up (jg_lv G) f v g) (h2 : ∀ t, t < 14 → ∀ g, g < 16 → bt (tc' t) g = (bt (tc t) g || decide (g = f))) : xr_R (jg_sl G (va_up (jg_lv G) f v)) lc' o bs en pr ct dy pn tc' tk lm' := by
  obtain ⟨a1, a2, a3, a4, a5, a6, a7, a8, a9, a10, a11, a12, a13⟩ := hr
  refine ⟨a1, a2, a3, a4, a5, a6, a7, a8, h1, a10, a11, a12, fun p hp g hg ht => ?_⟩
  rw [h2 _ (a3 p hp) g hg, Bool.or_eq_false_iff] at ht
  have hgf : ¬ g = f := of_decide_eq_false ht.2
  rw [show jg_V (jg_sl G (va_up (jg_lv G) f v)) p g = jg_V G p g from rfl, a13 p hp g hg ht.1]
  show jg_lv G g = va_up (jg_lv G) f v g
  unfold va_up
  rw [if_neg hgf]
section
variable {D : va_G} {E : je_E} {h : Nat} {ad : Nat → Nat} {cA : Nat → ClassId} {tys : List (ClassId × FieldType)} {w : va_W} {lc : Nat → Int32} {o : Nat → Nat} {bs : Nat → Option Nat} {en pr ct : Nat → Int32} {dy : Nat → Nat} {pn : Nat → Bool} {tc : Nat → Int32} {tk kp : Nat → Bool} {lm : Int32} {n td : Nat} {G : jg_G}
theorem xw_inK (hr : xr_R G lc o bs en pr ct dy pn tc tk lm) : xw_K h ad cA kp G (wX h ad cA lc o bs en pr ct dy pn tc tk kp lm (jg_n G) (jg_td G)) := ⟨lc, o, bs, en, pr, ct, dy, pn, tc, tk, lm, rfl, hr⟩
theorem xw_in (hr : xr_R G lc o bs en pr ct dy pn tc tk lm) : xw_R h ad cA G (wX h ad cA lc o bs en pr ct dy pn tc tk kp lm (jg_n G) (jg_td G)) := ⟨kp, xw_inK hr⟩
/-- setLive's loop: every slot is told -/
theorem mX_setLive_loop (C : jw_C E cX0_setLive 6 RX0 (tX cA) 1) {f : Nat} {b : Bool} {c x : Int32} (tc0 : Nat → Int32) (kk : ∀ (tc : Nat → Int32) (lv : List (Nat × Value)), (∀ t, t < 14 → tc t = tc0 t ||| x) → jw_J E 6 (wX h ad cA lc o bs en pr ct dy pn tc tk kp lm n td) 107 lv []) : ∀ (k i : Nat) (tc : Nat → Int32), i + k = 14 → (∀ t, t < i → tc t = tc0 t ||| x) → (∀ t, i ≤ t → tc t = tc0 t) → jw_J E 6 (wX h ad cA lc o bs en pr ct dy pn tc tk kp lm n td) 77 [(0, .ref h), (1, .int (nI f)), (2, .int (jp_b b)), (3, .int c), (4, .int x), (5, .int (nI i))] [] := by
  intro k
  induction k with
  | zero =>
    intro i tc hi h1 h2
    refine jr_iload (pc := 77) C dX0_setLive_77 rfl ?_
    refine jr_bipush (pc := 79) (v := nI 14) C dX0_setLive_79 (by decide) ?_
    refine jr_icmp_geN (tgt := 107) (pc := 81) C dX0_setLive_81 (by decide) (by omega) (by omega) (fun c_81 => ?_) (fun c_81 => ?_)
    · exact kk tc _ (fun t ht => h1 t (by omega))
    · exfalso; omega
  | succ k ih =>
    intro i tc hi h1 h2
    refine jr_iload (pc := 77) C dX0_setLive_77 rfl ?_
    refine jr_bipush (pc := 79) (v := nI 14) C dX0_setLive_79 (by decide) ?_
    refine jr_icmp_geN (tgt := 107) (pc := 81) C dX0_setLive_81 (by decide) (by omega) (by omega) (fun c_81 => ?_) (fun c_81 => ?_)
    · exfalso; omega
    · refine jr_aload_n (pc := 84) C dX0_setLive_84 rfl ?_
      refine jx_g_tc (pc := 85) C dX0_setLive_85 ?_
      refine jr_iload (pc := 88) C dX0_setLive_88 rfl ?_
      refine jr_aload_n (pc := 90) C dX0_setLive_90 rfl ?_
      refine jx_g_tc (pc := 91) C dX0_setLive_91 ?_
      refine jr_iload (pc := 94) C dX0_setLive_94 rfl ?_
      refine jx_l_tc (pc := 96) C (by omega) dX0_setLive_96 ?_
      refine jr_iload (pc := 97) C dX0_setLive_97 rfl ?_
      refine jr_ior (pc := 99) C dX0_setLive_99 ?_
      refine jx_s_tc (pc := 100) C (by omega) dX0_setLive_100 ?_
      refine jr_inc (pc := 101) C dX0_setLive_101 rfl (by decide) rfl ?_
      refine jr_goto (tgt := 77) (pc := 104) C dX0_setLive_104 (by decide) ?_
      refine ih (i + 1) _ (by omega) (fun t ht => ?_) (fun t ht => ?_)
      · unfold va_up
        split
        · next q => rw [q, h2 i (Nat.le_refl _)]
        · exact h1 t (by omega)
      · unfold va_up
        rw [if_neg (by omega)]
        exact h2 t (by omega)
/-- setLive's tail: a change -/
theorem mX_setLive_tail (C : jw_C E cX0_setLive 6 RX0 (tX cA) 1) (hr : xr_R G lc o bs en pr ct dy pn tc tk lm) {f : Nat} (hf : f < 16) {b : Bool} {c : Int32} (kk : ∀ (w' : va_W) (lv : List (Nat × Value)), xw_K h ad cA kp (jg_sl G (va_up (jg_lv G) f (jp_vl b c))) w' → jw_J E 6 w' 107 lv []) : jw_J E 6 (wX h ad cA lc o bs en pr ct dy pn tc tk kp lm (jg_n G) (jg_td G)) 27 [(0, .ref h), (1, .int (nI f)), (2, .int (jp_b b)), (3, .int c)] [] := by
  have hL := fun g (hg : g < 16) => xr_lv hr hg
  have hT : ∀ (tc' : Nat → Int32), (∀ t, t < 14 → tc' t = tc t ||| ((nI 1) <<< (nI f &&& 31))) → ∀ t, t < 14 → ∀ g, g < 16 → bt (tc' t) g = (bt (tc t) g || decide (g = f)) := by
    intro tc' h1 t ht g hg
    rw [h1 t ht, b_or, show nI 1 = 1 from rfl, jp_bit hf (by omega)]
  cases b with
  | true =>
    refine jr_iconst (pc := 27) (v := nI 1) C dX0_setLive_27 (by decide) ?_
    refine jr_iload_n (pc := 28) C dX0_setLive_28 rfl ?_
    refine jr_ishl (pc := 29) C dX0_setLive_29 ?_
    refine jr_istore (pc := 30) C dX0_setLive_30 (by decide) rfl ?_
    refine jr_aload_n (pc := 32) C dX0_setLive_32 rfl ?_
    refine jr_iload_n (pc := 33) C dX0_setLive_33 rfl ?_
    refine jr_if_eqB (tgt := 47) (pc := 34) C dX0_setLive_34 (by decide) (fun c_34 => ?_) (fun c_34 => ?_)
    · cases c_34
    · refine jr_aload_n (pc := 37) C dX0_setLive_37 rfl ?_
      refine jx_g_lm (pc := 38) C dX0_setLive_38 ?_
      refine jr_iload (pc := 41) C dX0_setLive_41 rfl ?_
      refine jr_ior (pc := 43) C dX0_setLive_43 ?_
      refine jr_goto (tgt := 56) (pc := 44) C dX0_setLive_44 (by decide) ?_
      refine jx_p_lm (pc := 56) C dX0_setLive_56 ?_
      refine jr_aload_n (pc := 59) C dX0_setLive_59 rfl ?_
      refine jx_g_lc (pc := 60) C dX0_setLive_60 ?_
      refine jr_iload_n (pc := 63) C dX0_setLive_63 rfl ?_
      refine jr_iload_n (pc := 64) C dX0_setLive_64 rfl ?_
      refine jr_if_eqB (tgt := 72) (pc := 65) C dX0_setLive_65 (by decide) (fun c_65 => ?_) (fun c_65 => ?_)
      · cases c_65
      · refine jr_iload_n (pc := 68) C dX0_setLive_68 rfl ?_
        refine jr_goto (tgt := 73) (pc := 69) C dX0_setLive_69 (by decide) ?_
        refine jx_s_lc (pc := 73) C (by omega) dX0_setLive_73 ?_
        refine jr_iconst (pc := 74) (v := nI 0) C dX0_setLive_74 (by decide) ?_
        refine jr_istore (pc := 75) C dX0_setLive_75 (by decide) rfl ?_
        refine mX_setLive_loop (b := true) C tc (fun tc' lv h1 => kk _ lv ⟨_, _, _, _, _, _, _, _, _, _, _, rfl, xr_set hr (fun g hg => ?_) (hT tc' h1)⟩) 14 0 tc (by omega) (fun t ht => absurd ht (Nat.not_lt_zero _)) (fun t ht => rfl)
        rw [b_or, show nI 1 = 1 from rfl, jp_bit hf (by omega)]
        unfold va_up
        by_cases e : g = f
        · rw [decide_eq_true e, Bool.or_true, if_pos e, if_pos e]
        · rw [decide_eq_false e, Bool.or_false, if_neg e, if_neg e]
          exact hL g hg
  | false =>
    refine jr_iconst (pc := 27) (v := nI 1) C dX0_setLive_27 (by decide) ?_
    refine jr_iload_n (pc := 28) C dX0_setLive_28 rfl ?_
    refine jr_ishl (pc := 29) C dX0_setLive_29 ?_
    refine jr_istore (pc := 30) C dX0_setLive_30 (by decide) rfl ?_
    refine jr_aload_n (pc := 32) C dX0_setLive_32 rfl ?_
    refine jr_iload_n (pc := 33) C dX0_setLive_33 rfl ?_
    refine jr_if_eqB (tgt := 47) (pc := 34) C dX0_setLive_34 (by decide) (fun c_34 => ?_) (fun c_34 => ?_)
    · refine jr_aload_n (pc := 47) C dX0_setLive_47 rfl ?_
      refine jx_g_lm (pc := 48) C dX0_setLive_48 ?_
      refine jr_iload (pc := 51) C dX0_setLive_51 rfl ?_
      refine jr_iconst (pc := 53) (v := (-1)) C dX0_setLive_53 (by decide) ?_
      refine jr_ixor (pc := 54) C dX0_setLive_54 ?_
      refine jr_iand (pc := 55) C dX0_setLive_55 ?_
      refine jx_p_lm (pc := 56) C dX0_setLive_56 ?_
      refine jr_aload_n (pc := 59) C dX0_setLive_59 rfl ?_
      refine jx_g_lc (pc := 60) C dX0_setLive_60 ?_
      refine jr_iload_n (pc := 63) C dX0_setLive_63 rfl ?_
      refine jr_iload_n (pc := 64) C dX0_setLive_64 rfl ?_
      refine jr_if_eqB (tgt := 72) (pc := 65) C dX0_setLive_65 (by decide) (fun c_65 => ?_) (fun c_65 => ?_)
      · refine jr_iconst (pc := 72) (v := nI 0) C dX0_setLive_72 (by decide) ?_
        refine jx_s_lc (pc := 73) C (by omega) dX0_setLive_73 ?_
        refine jr_iconst (pc := 74) (v := nI 0) C dX0_setLive_74 (by decide) ?_
        refine jr_istore (pc := 75) C dX0_setLive_75 (by decide) rfl ?_
        refine mX_setLive_loop (b := false) C tc (fun tc' lv h1 => kk _ lv ⟨_, _, _, _, _, _, _, _, _, _, _, rfl, xr_set hr (fun g hg => ?_) (hT tc' h1)⟩) 14 0 tc (by omega) (fun t ht => absurd ht (Nat.not_lt_zero _)) (fun t ht => rfl)
        rw [b_and, jp_not (by omega), show nI 1 = 1 from rfl, jp_bit hf (by omega)]
        unfold va_up
        by_cases e : g = f
        · rw [decide_eq_true e, if_pos e, if_pos e, Bool.not_true, Bool.and_false]
          rfl
        · rw [decide_eq_false e, Bool.not_false, Bool.and_true, if_neg e, if_neg e]
          exact hL g hg
      · cases c_65
    · cases c_34
/-- setLive(f, b, c): the live file is now as said -/
theorem mX_setLive (hr : xr_R G lc o bs en pr ct dy pn tc tk lm) {f : Nat} (hf : f < 16) (b : Bool) (c : Int32) : jw_Mv yX0_setLive cX0_setLive 6 1 D (tX cA) [.ref h, .int (nI f), .int (jp_b b), .int c] (wX h ad cA lc o bs en pr ct dy pn tc tk kp lm (jg_n G) (jg_td G)) (fun w' => xw_K h ad cA kp (jg_sl G (va_up (jg_lv G) f (jp_vl b c))) w') := by
  refine jw_Mv.of (own := RX0) (by decide) rfl (Nat.le_of_ble_eq_true rfl) ?_
  intro E hE C hret
  subst hE
  show jw_J E 6 _ 0 [(0, .ref h), (1, .int (nI f)), (2, .int (jp_b b)), (3, .int c)] []
  have hL := xr_lv hr hf
  refine jr_aload_n (pc := 0) C dX0_setLive_0 rfl ?_
  refine jx_g_lm (pc := 1) C dX0_setLive_1 ?_
  refine jr_iload_n (pc := 4) C dX0_setLive_4 rfl ?_
  refine jr_calls (pc := 5) C gw_X0_59 ok_X0_has (mX_has _ (by omega)) rfl (by decide) (by decide) dX0_setLive_5 rfl (Nat.le_of_ble_eq_true rfl) ?_
  rintro _ _ ⟨rfl, rfl⟩
  refine jr_iload_n (pc := 8) C dX0_setLive_8 rfl ?_
  refine jr_icmp_neB (tgt := 27) (pc := 9) C dX0_setLive_9 (by decide) (fun c_9 => ?_) (fun c_9 => ?_)
  · exact mX_setLive_tail C hr hf (fun w' lv hw => hret _ _ _ dX0_setLive_107 hw)
  · refine jr_iload_n (pc := 12) C dX0_setLive_12 rfl ?_
    refine jr_if_eqB (tgt := 26) (pc := 13) C dX0_setLive_13 (by decide) (fun c_13 => ?_) (fun c_13 => ?_)
    · refine hret _ _ _ dX0_setLive_26 ?_
      rw [jg_same]
      · exact xw_inK hr
      · rw [← hL]
        refine jp_vl_eq.mpr ⟨c_9, fun q => ?_⟩
        first
          | exact c_23
          | exact absurd (c_9.symm.trans q) (by rw [c_13]; decide)
    · refine jr_aload_n (pc := 16) C dX0_setLive_16 rfl ?_
      refine jx_g_lc (pc := 17) C dX0_setLive_17 ?_
      refine jr_iload_n (pc := 20) C dX0_setLive_20 rfl ?_
      refine jx_l_lc (pc := 21) C (by omega) dX0_setLive_21 ?_
      refine jr_iload_n (pc := 22) C dX0_setLive_22 rfl ?_
      refine jr_icmp_ne (tgt := 27) (pc := 23) C dX0_setLive_23 (by decide) (fun c_23 => ?_) (fun c_23 => ?_)
      · exact mX_setLive_tail C hr hf (fun w' lv hw => hret _ _ _ dX0_setLive_107 hw)
      · refine hret _ _ _ dX0_setLive_26 ?_
        rw [jg_same]
        · exact xw_inK hr
        · rw [← hL]
          refine jp_vl_eq.mpr ⟨c_9, fun q => ?_⟩
          first
            | exact c_23
            | exact absurd (c_9.symm.trans q) (by rw [c_13]; decide)
/-- bring(slot of p, f): the live file is now as point p holds it -/
theorem mX_bring (hr : xr_R G lc o bs en pr ct dy pn tc tk lm) {p f : Nat} (hp : p < jg_n G) (hf : f < 16) : jw_Mi yX0_bring cX0_bring 4 (some .int) 3 D (tX cA) [.ref h, .int (nI (o p)), .int (nI f)] (wX h ad cA lc o bs en pr ct dy pn tc tk kp lm (jg_n G) (jg_td G)) (fun r w' => r = jp_b (jp_ne (jg_V G p f) (jg_lv G f)) ∧ xw_K h ad cA kp (jg_sl G (va_up (jg_lv G) f (jg_V G p f))) w') := by
  refine jw_Mi.of (own := RX0) (by decide) rfl (Nat.le_of_ble_eq_true rfl) (fun _ _ _ => rfl) ?_
  intro E hE C hret
  subst hE
  show jw_J E 4 _ 0 [(0, .ref h), (1, .int (nI (o p))), (2, .int (nI f))] []
  have hn := xr_n hr
  have hop := xr_o hr hp
  have hL := xr_lv hr hf
  refine jr_aload_n (pc := 0) C dX0_bring_0 rfl ?_
  refine jx_g_tc (pc := 1) C dX0_bring_1 ?_
  refine jr_iload_n (pc := 4) C dX0_bring_4 rfl ?_
  refine jx_l_tc (pc := 5) C (by omega) dX0_bring_5 ?_
  refine jr_iload_n (pc := 6) C dX0_bring_6 rfl ?_
  refine jr_calls (pc := 7) C gw_X0_59 ok_X0_has (mX_has _ (by omega)) rfl (by decide) (by decide) dX0_bring_7 rfl (Nat.le_of_ble_eq_true rfl) ?_
  rintro _ _ ⟨rfl, rfl⟩
  refine jr_if_eqB (tgt := 22) (pc := 10) C dX0_bring_10 (by decide) (fun c_10 => ?_) (fun c_10 => ?_)
  · refine jr_iconst (pc := 22) (v := nI 0) C dX0_bring_22 (by decide) ?_
    refine hret _ _ _ _ dX0_bring_23 ?_
    have e : jg_V G p f = jg_lv G f := by
      first
        | exact xr_T hr hp hf c_10
        | exact jp_ne_ff (by simpa using c_19)
    refine ⟨by rw [jp_ne_f e]; rfl, ?_⟩
    rw [jg_same e.symm]
    exact xw_inK hr
  · refine jr_aload_n (pc := 13) C dX0_bring_13 rfl ?_
    refine jr_iload_n (pc := 14) C dX0_bring_14 rfl ?_
    refine jr_iload_n (pc := 15) C dX0_bring_15 rfl ?_
    refine jr_calli (pc := 16) C gw_X0_97 ok_X0_isLive (mX_isLive hr hp hf) rfl (by decide) (by decide) rfl rfl dX0_bring_16 rfl (Nat.le_of_ble_eq_true rfl) ?_
    rintro _ _ ⟨rfl, rfl⟩
    refine jr_if_eqB (tgt := 24) (pc := 19) C dX0_bring_19 (by decide) (fun c_19 => ?_) (fun c_19 => ?_)
    · refine jr_aload_n (pc := 24) C dX0_bring_24 rfl ?_
      refine jr_iload_n (pc := 25) C dX0_bring_25 rfl ?_
      refine jr_iload_n (pc := 26) C dX0_bring_26 rfl ?_
      refine jr_calli (pc := 27) C gw_X0_90 ok_X0_holder (mX_holder hr hp hf) rfl (by decide) (by decide) rfl rfl dX0_bring_27 rfl (Nat.le_of_ble_eq_true rfl) ?_
      rintro _ _ ⟨⟨q, hq, rfl, he, hv⟩, rfl⟩
      have hoq := xr_o hr (p := q) (by omega)
      have hE := xr_E hr (p := q) (by omega) hf he
      refine jr_istore_n (pc := 30) C dX0_bring_30 (by decide) rfl ?_
      refine jr_aload_n (pc := 31) C dX0_bring_31 rfl ?_
      refine jr_iload_n (pc := 32) C dX0_bring_32 rfl ?_
      refine jr_aload_n (pc := 33) C dX0_bring_33 rfl ?_
      refine jx_g_pr (pc := 34) C dX0_bring_34 ?_
      refine jr_iload_n (pc := 37) C dX0_bring_37 rfl ?_
      refine jx_l_pr (pc := 38) C (by omega) dX0_bring_38 ?_
      refine jr_iload_n (pc := 39) C dX0_bring_39 rfl ?_
      refine jr_calls (pc := 40) C gw_X0_59 ok_X0_has (mX_has _ (by omega)) rfl (by decide) (by decide) dX0_bring_40 rfl (Nat.le_of_ble_eq_true rfl) ?_
      rintro _ _ ⟨rfl, rfl⟩
      refine jr_aload_n (pc := 43) C dX0_bring_43 rfl ?_
      refine jx_g_ct (pc := 44) C dX0_bring_44 ?_
      refine jr_bipush (pc := 47) (v := nI 16) C dX0_bring_47 (by decide) ?_
      refine jr_iload_n (pc := 49) C dX0_bring_49 rfl ?_
      refine jr_imulN (pc := 50) C dX0_bring_50 ?_
      refine jr_iload_n (pc := 51) C dX0_bring_51 rfl ?_
      refine jr_iaddN (pc := 52) C dX0_bring_52 ?_
      refine jx_l_ct (pc := 53) C (by omega) dX0_bring_53 ?_
      refine jr_callv (pc := 54) C gw_X0_55 ok_X0_setLive (mX_setLive hr hf _ _) rfl (by decide) (by decide) rfl rfl dX0_bring_54 rfl (Nat.le_of_ble_eq_true rfl) ?_
      rw [hE, hv]
      intro w1 hw1
      refine jr_iconst (pc := 57) (v := nI 1) C dX0_bring_57 (by decide) ?_
      exact hret _ _ _ _ dX0_bring_58 ⟨by rw [show jp_ne (jg_V G p f) (jg_lv G f) = true from by simpa using c_19]; rfl, hw1⟩
    · refine jr_iconst (pc := 22) (v := nI 0) C dX0_bring_22 (by decide) ?_
      refine hret _ _ _ _ dX0_bring_23 ?_
      have e : jg_V G p f = jg_lv G f := by
        first
          | exact xr_T hr hp hf c_10
          | exact jp_ne_ff (by simpa using c_19)
      refine ⟨by rw [jp_ne_f e]; rfl, ?_⟩
      rw [jg_same e.symm]
      exact xw_inK hr
end
end
section
/-! the component: public methods without loops -/
set_option maxRecDepth 100000
section
variable {D : va_G} {E : je_E} {h : Nat} {ad : Nat → Nat} {cA : Nat → ClassId} {tys : List (ClassId × FieldType)} {w : va_W} {lc : Nat → Int32} {o : Nat → Nat} {bs : Nat → Option Nat} {en pr ct : Nat → Int32} {dy : Nat → Nat} {pn : Nat → Bool} {tc : Nat → Int32} {tk kp : Nat → Bool} {lm : Int32} {n td : Nat} {G : jg_G}
/-- points() -/
theorem mX_points (hr : xr_R G lc o bs en pr ct dy pn tc tk lm) : jw_Mi yX0_points cX0_points 1 (some .int) 0 D (tX cA) [.ref h] (wX h ad cA lc o bs en pr ct dy pn tc tk kp lm (jg_n G) (jg_td G)) (fun r w' => r = (sp_points G).1 ∧ xw_R h ad cA (sp_points G).2 w') := by
  refine jw_Mi.of (own := RX0) (by decide) rfl (Nat.le_of_ble_eq_true rfl) (fun _ _ _ => rfl) ?_
  intro E hE C hret
  subst hE
  show jw_J E 1 _ 0 [(0, .ref h)] []
  refine jr_aload_n (pc := 0) C dX0_points_0 rfl ?_
  refine jx_g_n (pc := 1) C dX0_points_1 ?_
  exact hret _ _ _ _ dX0_points_4 ⟨rfl, xw_in hr⟩
/-- put -/
theorem mX_put (hr : xr_R G lc o bs en pr ct dy pn tc tk lm) (a : Int32) (c : Int32) : jw_Mi yX0_put cX0_put 4 (some .int) 2 D (tX cA) [.ref h, .int a, .int c] (wX h ad cA lc o bs en pr ct dy pn tc tk kp lm (jg_n G) (jg_td G)) (fun r w' => r = (sp_put a c G).1 ∧ xw_R h ad cA (sp_put a c G).2 w') := by
  have hn := xr_n hr
  cases hq : jp_ix a 16 with
  | none =>
    rw [show sp_put a c G = (-1, G) from by simp only [sp_put, hq]]
    refine jw_Mi.of (own := RX0) (by decide) rfl (Nat.le_of_ble_eq_true rfl) (fun _ _ _ => rfl) ?_
    intro E hE C hret
    subst hE
    show jw_J E 4 _ 0 [(0, .ref h), (1, .int a), (2, .int c)] []
    refine jr_iload_n (pc := 0) C dX0_put_0 rfl ?_
    refine jr_calls (pc := 1) C gw_X0_48 ok_X0_isFile (mX_isFile _) rfl (by decide) (by decide) dX0_put_1 rfl (Nat.le_of_ble_eq_true rfl) ?_
    rintro _ _ ⟨rfl, rfl⟩
    refine jr_if_neB (tgt := 9) (pc := 4) C dX0_put_4 (by decide) (fun c_4 => ?_) (fun c_4 => ?_)
    · simp [hq] at c_4
    · refine jr_iconst (pc := 7) (v := (-1)) C dX0_put_7 (by decide) ?_
      exact hret _ _ _ _ dX0_put_8 ⟨rfl, xw_in hr⟩
  | some f =>
    obtain ⟨hf, rfl⟩ := jp_ix_some hq
    rw [show sp_put (nI f) c G = (jp_b (jg_lv G f).isSome, jg_sl G (va_up (jg_lv G) f (some c))) from by simp only [sp_put, hq]]
    have hL := xr_lv hr hf
    refine jw_Mi.of (own := RX0) (by decide) rfl (Nat.le_of_ble_eq_true rfl) (fun _ _ _ => rfl) ?_
    intro E hE C hret
    subst hE
    show jw_J E 4 _ 0 [(0, .ref h), (1, .int (nI f)), (2, .int c)] []
    refine jr_iload_n (pc := 0) C dX0_put_0 rfl ?_
    refine jr_calls (pc := 1) C gw_X0_48 ok_X0_isFile (mX_isFile _) rfl (by decide) (by decide) dX0_put_1 rfl (Nat.le_of_ble_eq_true rfl) ?_
    rintro _ _ ⟨rfl, rfl⟩
    refine jr_if_neB (tgt := 9) (pc := 4) C dX0_put_4 (by decide) (fun c_4 => ?_) (fun c_4 => ?_)
    · refine jr_aload_n (pc := 9) C dX0_put_9 rfl ?_
      refine jx_g_lm (pc := 10) C dX0_put_10 ?_
      refine jr_iload_n (pc := 13) C dX0_put_13 rfl ?_
      refine jr_ishr (pc := 14) C dX0_put_14 ?_
      refine jr_iconst (pc := 15) (v := nI 1) C dX0_put_15 (by decide) ?_
      refine jr_iand (pc := 16) C dX0_put_16 ?_
      refine jr_top (show (lm >>> (nI f &&& 31)) &&& nI 1 = jp_b (bt lm f) from jp_has hf) ?_
      refine jr_istore_n (pc := 17) C dX0_put_17 (by decide) rfl ?_
      refine jr_aload_n (pc := 18) C dX0_put_18 rfl ?_
      refine jr_iload_n (pc := 19) C dX0_put_19 rfl ?_
      refine jr_iconst (pc := 20) (v := jp_b true) C dX0_put_20 (by decide) ?_
      refine jr_iload_n (pc := 21) C dX0_put_21 rfl ?_
      refine jr_callv (pc := 22) C gw_X0_55 ok_X0_setLive (mX_setLive hr hf _ _) rfl (by decide) (by decide) rfl rfl dX0_put_22 rfl (Nat.le_of_ble_eq_true rfl) ?_
      intro w1 hw1
      refine jr_iload_n (pc := 25) C dX0_put_25 rfl ?_
      exact hret _ _ _ _ dX0_put_26 ⟨by rw [← hL, jp_vl_is], kp, hw1⟩
    · simp [hq] at c_4
/-- delete -/
theorem mX_delete (hr : xr_R G lc o bs en pr ct dy pn tc tk lm) (a : Int32) : jw_Mi yX0_delete cX0_delete 3 (some .int) 2 D (tX cA) [.ref h, .int a] (wX h ad cA lc o bs en pr ct dy pn tc tk kp lm (jg_n G) (jg_td G)) (fun r w' => r = (sp_delete a G).1 ∧ xw_R h ad cA (sp_delete a G).2 w') := by
  have hn := xr_n hr
  cases hq : jp_ix a 16 with
  | none =>
    rw [show sp_delete a G = (-1, G) from by simp only [sp_delete, hq]]
    refine jw_Mi.of (own := RX0) (by decide) rfl (Nat.le_of_ble_eq_true rfl) (fun _ _ _ => rfl) ?_
    intro E hE C hret
    subst hE
    show jw_J E 3 _ 0 [(0, .ref h), (1, .int a)] []
    refine jr_iload_n (pc := 0) C dX0_delete_0 rfl ?_
    refine jr_calls (pc := 1) C gw_X0_48 ok_X0_isFile (mX_isFile _) rfl (by decide) (by decide) dX0_delete_1 rfl (Nat.le_of_ble_eq_true rfl) ?_
    rintro _ _ ⟨rfl, rfl⟩
    refine jr_if_neB (tgt := 9) (pc := 4) C dX0_delete_4 (by decide) (fun c_4 => ?_) (fun c_4 => ?_)
    · simp [hq] at c_4
    · refine jr_iconst (pc := 7) (v := (-1)) C dX0_delete_7 (by decide) ?_
      exact hret _ _ _ _ dX0_delete_8 ⟨rfl, xw_in hr⟩
  | some f =>
    obtain ⟨hf, rfl⟩ := jp_ix_some hq
    rw [show sp_delete (nI f) G = (jp_b (jg_lv G f).isSome, jg_sl G (va_up (jg_lv G) f (none))) from by simp only [sp_delete, hq]]
    have hL := xr_lv hr hf
    refine jw_Mi.of (own := RX0) (by decide) rfl (Nat.le_of_ble_eq_true rfl) (fun _ _ _ => rfl) ?_
    intro E hE C hret
    subst hE
    show jw_J E 3 _ 0 [(0, .ref h), (1, .int (nI f))] []
    refine jr_iload_n (pc := 0) C dX0_delete_0 rfl ?_
    refine jr_calls (pc := 1) C gw_X0_48 ok_X0_isFile (mX_isFile _) rfl (by decide) (by decide) dX0_delete_1 rfl (Nat.le_of_ble_eq_true rfl) ?_
    rintro _ _ ⟨rfl, rfl⟩
    refine jr_if_neB (tgt := 9) (pc := 4) C dX0_delete_4 (by decide) (fun c_4 => ?_) (fun c_4 => ?_)
    · refine jr_aload_n (pc := 9) C dX0_delete_9 rfl ?_
      refine jx_g_lm (pc := 10) C dX0_delete_10 ?_
      refine jr_iload_n (pc := 13) C dX0_delete_13 rfl ?_
      refine jr_ishr (pc := 14) C dX0_delete_14 ?_
      refine jr_iconst (pc := 15) (v := nI 1) C dX0_delete_15 (by decide) ?_
      refine jr_iand (pc := 16) C dX0_delete_16 ?_
      refine jr_top (show (lm >>> (nI f &&& 31)) &&& nI 1 = jp_b (bt lm f) from jp_has hf) ?_
      refine jr_istore_n (pc := 17) C dX0_delete_17 (by decide) rfl ?_
      refine jr_aload_n (pc := 18) C dX0_delete_18 rfl ?_
      refine jr_iload_n (pc := 19) C dX0_delete_19 rfl ?_
      refine jr_iconst (pc := 20) (v := jp_b false) C dX0_delete_20 (by decide) ?_
      refine jr_iconst (pc := 21) (v := nI 0) C dX0_delete_21 (by decide) ?_
      refine jr_callv (pc := 22) C gw_X0_55 ok_X0_setLive (mX_setLive hr hf _ _) rfl (by decide) (by decide) rfl rfl dX0_delete_22 rfl (Nat.le_of_ble_eq_true rfl) ?_
      intro w1 hw1
      refine jr_iload_n (pc := 25) C dX0_delete_25 rfl ?_
      exact hret _ _ _ _ dX0_delete_26 ⟨by rw [← hL, jp_vl_is], kp, hw1⟩
    · simp [hq] at c_4
/-- rename -/
theorem mX_rename (hr : xr_R G lc o bs en pr ct dy pn tc tk lm) (a : Int32) (b : Int32) : jw_Mi yX0_rename cX0_rename 3 (some .int) 2 D (tX cA) [.ref h, .int a, .int b] (wX h ad cA lc o bs en pr ct dy pn tc tk kp lm (jg_n G) (jg_td G)) (fun r w' => r = (sp_rename a b G).1 ∧ xw_R h ad cA (sp_rename a b G).2 w') := by
  have hn := xr_n hr
  cases hq : jp_ix a 16 with
  | none =>
    rw [show sp_rename a b G = (-1, G) from by simp only [sp_rename, hq]]
    refine jw_Mi.of (own := RX0) (by decide) rfl (Nat.le_of_ble_eq_true rfl) (fun _ _ _ => rfl) ?_
    intro E hE C hret
    subst hE
    show jw_J E 3 _ 0 [(0, .ref h), (1, .int a), (2, .int b)] []
    refine jr_iload_n (pc := 0) C dX0_rename_0 rfl ?_
    refine jr_calls (pc := 1) C gw_X0_48 ok_X0_isFile (mX_isFile _) rfl (by decide) (by decide) dX0_rename_1 rfl (Nat.le_of_ble_eq_true rfl) ?_
    rintro _ _ ⟨rfl, rfl⟩
    refine jr_if_eqB (tgt := 14) (pc := 4) C dX0_rename_4 (by decide) (fun c_4 => ?_) (fun c_4 => ?_)
    · refine jr_iconst (pc := 14) (v := (-1)) C dX0_rename_14 (by decide) ?_
      exact hret _ _ _ _ dX0_rename_15 ⟨rfl, xw_in hr⟩
    · simp [hq] at c_4
  | some f =>
    obtain ⟨hf, rfl⟩ := jp_ix_some hq
    cases hq2 : jp_ix b 16 with
    | none =>
      rw [show sp_rename (nI f) b G = (-1, G) from by simp only [sp_rename, hq, hq2]]
      refine jw_Mi.of (own := RX0) (by decide) rfl (Nat.le_of_ble_eq_true rfl) (fun _ _ _ => rfl) ?_
      intro E hE C hret
      subst hE
      show jw_J E 3 _ 0 [(0, .ref h), (1, .int (nI f)), (2, .int b)] []
      refine jr_iload_n (pc := 0) C dX0_rename_0 rfl ?_
      refine jr_calls (pc := 1) C gw_X0_48 ok_X0_isFile (mX_isFile _) rfl (by decide) (by decide) dX0_rename_1 rfl (Nat.le_of_ble_eq_true rfl) ?_
      rintro _ _ ⟨rfl, rfl⟩
      refine jr_if_eqB (tgt := 14) (pc := 4) C dX0_rename_4 (by decide) (fun c_4 => ?_) (fun c_4 => ?_)
      · simp [hq] at c_4
      · refine jr_iload_n (pc := 7) C dX0_rename_7 rfl ?_
        refine jr_calls (pc := 8) C gw_X0_48 ok_X0_isFile (mX_isFile _) rfl (by decide) (by decide) dX0_rename_8 rfl (Nat.le_of_ble_eq_true rfl) ?_
        rintro _ _ ⟨rfl, rfl⟩
        refine jr_if_neB (tgt := 16) (pc := 11) C dX0_rename_11 (by decide) (fun c_11 => ?_) (fun c_11 => ?_)
        · simp [hq2] at c_11
        · refine jr_iconst (pc := 14) (v := (-1)) C dX0_rename_14 (by decide) ?_
          exact hret _ _ _ _ dX0_rename_15 ⟨rfl, xw_in hr⟩
    | some g =>
      obtain ⟨hg, rfl⟩ := jp_ix_some hq2
      have hL := xr_lv hr hf
      by_cases hfg : f = g
      · rw [show sp_rename (nI f) (nI g) G = (-2, G) from by simp only [sp_rename, hq, hq2, hfg, if_true]]
        refine jw_Mi.of (own := RX0) (by decide) rfl (Nat.le_of_ble_eq_true rfl) (fun _ _ _ => rfl) ?_
        intro E hE C hret
        subst hE
        show jw_J E 3 _ 0 [(0, .ref h), (1, .int (nI f)), (2, .int (nI g))] []
        refine jr_iload_n (pc := 0) C dX0_rename_0 rfl ?_
        refine jr_calls (pc := 1) C gw_X0_48 ok_X0_isFile (mX_isFile _) rfl (by decide) (by decide) dX0_rename_1 rfl (Nat.le_of_ble_eq_true rfl) ?_
        rintro _ _ ⟨rfl, rfl⟩
        refine jr_if_eqB (tgt := 14) (pc := 4) C dX0_rename_4 (by decide) (fun c_4 => ?_) (fun c_4 => ?_)
        · simp [hq] at c_4
        · refine jr_iload_n (pc := 7) C dX0_rename_7 rfl ?_
          refine jr_calls (pc := 8) C gw_X0_48 ok_X0_isFile (mX_isFile _) rfl (by decide) (by decide) dX0_rename_8 rfl (Nat.le_of_ble_eq_true rfl) ?_
          rintro _ _ ⟨rfl, rfl⟩
          refine jr_if_neB (tgt := 16) (pc := 11) C dX0_rename_11 (by decide) (fun c_11 => ?_) (fun c_11 => ?_)
          · refine jr_iload_n (pc := 16) C dX0_rename_16 rfl ?_
            refine jr_iload_n (pc := 17) C dX0_rename_17 rfl ?_
            refine jr_icmp_neN (tgt := 24) (pc := 18) C dX0_rename_18 (by decide) (by omega) (by omega) (fun c_18 => ?_) (fun c_18 => ?_)
            · exact absurd hfg c_18
            · refine jr_bipush (pc := 21) (v := (-2)) C dX0_rename_21 (by decide) ?_
              exact hret _ _ _ _ dX0_rename_23 ⟨rfl, xw_in hr⟩
          · simp [hq2] at c_11
      · cases hb : bt lm f with
        | false =>
          rw [show sp_rename (nI f) (nI g) G = (-3, G) from by simp only [sp_rename, hq, hq2, if_neg hfg, ← hL, hb]; rfl]
          refine jw_Mi.of (own := RX0) (by decide) rfl (Nat.le_of_ble_eq_true rfl) (fun _ _ _ => rfl) ?_
          intro E hE C hret
          subst hE
          show jw_J E 3 _ 0 [(0, .ref h), (1, .int (nI f)), (2, .int (nI g))] []
          refine jr_iload_n (pc := 0) C dX0_rename_0 rfl ?_
          refine jr_calls (pc := 1) C gw_X0_48 ok_X0_isFile (mX_isFile _) rfl (by decide) (by decide) dX0_rename_1 rfl (Nat.le_of_ble_eq_true rfl) ?_
          rintro _ _ ⟨rfl, rfl⟩
          refine jr_if_eqB (tgt := 14) (pc := 4) C dX0_rename_4 (by decide) (fun c_4 => ?_) (fun c_4 => ?_)
          · simp [hq] at c_4
          · refine jr_iload_n (pc := 7) C dX0_rename_7 rfl ?_
            refine jr_calls (pc := 8) C gw_X0_48 ok_X0_isFile (mX_isFile _) rfl (by decide) (by decide) dX0_rename_8 rfl (Nat.le_of_ble_eq_true rfl) ?_
            rintro _ _ ⟨rfl, rfl⟩
            refine jr_if_neB (tgt := 16) (pc := 11) C dX0_rename_11 (by decide) (fun c_11 => ?_) (fun c_11 => ?_)
            · refine jr_iload_n (pc := 16) C dX0_rename_16 rfl ?_
              refine jr_iload_n (pc := 17) C dX0_rename_17 rfl ?_
              refine jr_icmp_neN (tgt := 24) (pc := 18) C dX0_rename_18 (by decide) (by omega) (by omega) (fun c_18 => ?_) (fun c_18 => ?_)
              · refine jr_aload_n (pc := 24) C dX0_rename_24 rfl ?_
                refine jx_g_lm (pc := 25) C dX0_rename_25 ?_
                refine jr_iload_n (pc := 28) C dX0_rename_28 rfl ?_
                refine jr_calls (pc := 29) C gw_X0_59 ok_X0_has (mX_has _ (by omega)) rfl (by decide) (by decide) dX0_rename_29 rfl (Nat.le_of_ble_eq_true rfl) ?_
                rintro _ _ ⟨rfl, rfl⟩
                refine jr_if_neB (tgt := 38) (pc := 32) C dX0_rename_32 (by decide) (fun c_32 => ?_) (fun c_32 => ?_)
                · rw [hb] at c_32; cases c_32
                · refine jr_bipush (pc := 35) (v := (-3)) C dX0_rename_35 (by decide) ?_
                  exact hret _ _ _ _ dX0_rename_37 ⟨rfl, xw_in hr⟩
              · exact absurd c_18 hfg
            · simp [hq2] at c_11
        | true =>
          rw [show sp_rename (nI f) (nI g) G = (0, jg_sl G (va_up (va_up (jg_lv G) g (some (lc f))) f none)) from by simp only [sp_rename, hq, hq2, if_neg hfg, ← hL, hb]; rfl]
          refine jw_Mi.of (own := RX0) (by decide) rfl (Nat.le_of_ble_eq_true rfl) (fun _ _ _ => rfl) ?_
          intro E hE C hret
          subst hE
          show jw_J E 3 _ 0 [(0, .ref h), (1, .int (nI f)), (2, .int (nI g))] []
          refine jr_iload_n (pc := 0) C dX0_rename_0 rfl ?_
          refine jr_calls (pc := 1) C gw_X0_48 ok_X0_isFile (mX_isFile _) rfl (by decide) (by decide) dX0_rename_1 rfl (Nat.le_of_ble_eq_true rfl) ?_
          rintro _ _ ⟨rfl, rfl⟩
          refine jr_if_eqB (tgt := 14) (pc := 4) C dX0_rename_4 (by decide) (fun c_4 => ?_) (fun c_4 => ?_)
          · simp [hq] at c_4
          · refine jr_iload_n (pc := 7) C dX0_rename_7 rfl ?_
            refine jr_calls (pc := 8) C gw_X0_48 ok_X0_isFile (mX_isFile _) rfl (by decide) (by decide) dX0_rename_8 rfl (Nat.le_of_ble_eq_true rfl) ?_
            rintro _ _ ⟨rfl, rfl⟩
            refine jr_if_neB (tgt := 16) (pc := 11) C dX0_rename_11 (by decide) (fun c_11 => ?_) (fun c_11 => ?_)
            · refine jr_iload_n (pc := 16) C dX0_rename_16 rfl ?_
              refine jr_iload_n (pc := 17) C dX0_rename_17 rfl ?_
              refine jr_icmp_neN (tgt := 24) (pc := 18) C dX0_rename_18 (by decide) (by omega) (by omega) (fun c_18 => ?_) (fun c_18 => ?_)
              · refine jr_aload_n (pc := 24) C dX0_rename_24 rfl ?_
                refine jx_g_lm (pc := 25) C dX0_rename_25 ?_
                refine jr_iload_n (pc := 28) C dX0_rename_28 rfl ?_
                refine jr_calls (pc := 29) C gw_X0_59 ok_X0_has (mX_has _ (by omega)) rfl (by decide) (by decide) dX0_rename_29 rfl (Nat.le_of_ble_eq_true rfl) ?_
                rintro _ _ ⟨rfl, rfl⟩
                refine jr_if_neB (tgt := 38) (pc := 32) C dX0_rename_32 (by decide) (fun c_32 => ?_) (fun c_32 => ?_)
                · refine jr_aload_n (pc := 38) C dX0_rename_38 rfl ?_
                  refine jr_iload_n (pc := 39) C dX0_rename_39 rfl ?_
                  refine jr_iconst (pc := 40) (v := jp_b true) C dX0_rename_40 (by decide) ?_
                  refine jr_aload_n (pc := 41) C dX0_rename_41 rfl ?_
                  refine jx_g_lc (pc := 42) C dX0_rename_42 ?_
                  refine jr_iload_n (pc := 45) C dX0_rename_45 rfl ?_
                  refine jx_l_lc (pc := 46) C (by omega) dX0_rename_46 ?_
                  refine jr_callv (pc := 47) C gw_X0_55 ok_X0_setLive (mX_setLive hr hg _ _) rfl (by decide) (by decide) rfl rfl dX0_rename_47 rfl (Nat.le_of_ble_eq_true rfl) ?_
                  rintro _ ⟨lc1, o1, bs1, en1, pr1, ct1, dy1, pn1, tc1, tk1, lm1, rfl, hr1⟩
                  refine jr_aload_n (pc := 50) C dX0_rename_50 rfl ?_
                  refine jr_iload_n (pc := 51) C dX0_rename_51 rfl ?_
                  refine jr_iconst (pc := 52) (v := jp_b false) C dX0_rename_52 (by decide) ?_
                  refine jr_iconst (pc := 53) (v := nI 0) C dX0_rename_53 (by decide) ?_
                  refine jr_callv (pc := 54) C gw_X0_55 ok_X0_setLive (mX_setLive hr1 hf _ _) rfl (by decide) (by decide) rfl rfl dX0_rename_54 rfl (Nat.le_of_ble_eq_true rfl) ?_
                  intro w1 hw1
                  refine jr_iconst (pc := 57) (v := nI 0) C dX0_rename_57 (by decide) ?_
                  exact hret _ _ _ _ dX0_rename_58 ⟨rfl, kp, hw1⟩
                · rw [hb] at c_32; cases c_32
              · exact absurd c_18 hfg
            · simp [hq2] at c_11
/-- advance -/
theorem mX_advance (hr : xr_R G lc o bs en pr ct dy pn tc tk lm) (a : Int32) : jw_Mi yX0_advance cX0_advance 2 (some .int) 0 D (tX cA) [.ref h, .int a] (wX h ad cA lc o bs en pr ct dy pn tc tk kp lm (jg_n G) (jg_td G)) (fun r w' => r = (sp_advance a G).1 ∧ xw_R h ad cA (sp_advance a G).2 w') := by
  have hn := xr_n hr
  have htd := xr_td hr
  cases hq : jp_ix a 61 with
  | none =>
    rw [show sp_advance a G = (-1, G) from by simp only [sp_advance, hq]]
    refine jw_Mi.of (own := RX0) (by decide) rfl (Nat.le_of_ble_eq_true rfl) (fun _ _ _ => rfl) ?_
    intro E hE C hret
    subst hE
    show jw_J E 2 _ 0 [(0, .ref h), (1, .int a)] []
    refine jr_iload_n (pc := 0) C dX0_advance_0 rfl ?_
    refine jr_iconst (pc := 1) (v := nI 1) C dX0_advance_1 (by decide) ?_
    refine jr_icmp_lt (tgt := 11) (pc := 2) C dX0_advance_2 (by decide) (fun c_2 => ?_) (fun c_2 => ?_)
    · refine jr_iconst (pc := 11) (v := (-1)) C dX0_advance_11 (by decide) ?_
      exact hret _ _ _ _ dX0_advance_12 ⟨rfl, xw_in hr⟩
    · refine jr_iload_n (pc := 5) C dX0_advance_5 rfl ?_
      refine jr_bipush (pc := 6) (v := nI 60) C dX0_advance_6 (by decide) ?_
      refine jr_icmp_le (tgt := 13) (pc := 8) C dX0_advance_8 (by decide) (fun c_8 => ?_) (fun c_8 => ?_)
      · exact absurd c_8 (fun q => jp_ix_abs (m := 60) rfl (by omega) hq (fun z => c_2 (Int32.lt_trans z (by decide))) q)
      · refine jr_iconst (pc := 11) (v := (-1)) C dX0_advance_11 (by decide) ?_
        exact hret _ _ _ _ dX0_advance_12 ⟨rfl, xw_in hr⟩
  | some k =>
    obtain ⟨hk, rfl⟩ := jp_ix_some hq
    by_cases hk0 : k = 0
    · rw [show sp_advance (nI k) G = (-1, G) from by simp only [sp_advance, hq, if_pos hk0]]
      refine jw_Mi.of (own := RX0) (by decide) rfl (Nat.le_of_ble_eq_true rfl) (fun _ _ _ => rfl) ?_
      intro E hE C hret
      subst hE
      show jw_J E 2 _ 0 [(0, .ref h), (1, .int (nI k))] []
      refine jr_iload_n (pc := 0) C dX0_advance_0 rfl ?_
      refine jr_iconst (pc := 1) (v := nI 1) C dX0_advance_1 (by decide) ?_
      refine jr_icmp_ltN (tgt := 11) (pc := 2) C dX0_advance_2 (by decide) (by omega) (by omega) (fun c_2 => ?_) (fun c_2 => ?_)
      · refine jr_iconst (pc := 11) (v := (-1)) C dX0_advance_11 (by decide) ?_
        exact hret _ _ _ _ dX0_advance_12 ⟨rfl, xw_in hr⟩
      · exfalso; omega
    · by_cases h5 : 5000 < jg_td G + k
      · rw [show sp_advance (nI k) G = (-2, G) from by simp only [sp_advance, hq, if_neg hk0, if_pos h5]]
        refine jw_Mi.of (own := RX0) (by decide) rfl (Nat.le_of_ble_eq_true rfl) (fun _ _ _ => rfl) ?_
        intro E hE C hret
        subst hE
        show jw_J E 2 _ 0 [(0, .ref h), (1, .int (nI k))] []
        refine jr_iload_n (pc := 0) C dX0_advance_0 rfl ?_
        refine jr_iconst (pc := 1) (v := nI 1) C dX0_advance_1 (by decide) ?_
        refine jr_icmp_ltN (tgt := 11) (pc := 2) C dX0_advance_2 (by decide) (by omega) (by omega) (fun c_2 => ?_) (fun c_2 => ?_)
        · exfalso; omega
        · refine jr_iload_n (pc := 5) C dX0_advance_5 rfl ?_
          refine jr_bipush (pc := 6) (v := nI 60) C dX0_advance_6 (by decide) ?_
          refine jr_icmp_leN (tgt := 13) (pc := 8) C dX0_advance_8 (by decide) (by omega) (by omega) (fun c_8 => ?_) (fun c_8 => ?_)
          · refine jr_aload_n (pc := 13) C dX0_advance_13 rfl ?_
            refine jx_g_td (pc := 14) C dX0_advance_14 ?_
            refine jr_iload_n (pc := 17) C dX0_advance_17 rfl ?_
            refine jr_iaddN (pc := 18) C dX0_advance_18 ?_
            refine jr_sipush (pc := 19) (v := nI 5000) C dX0_advance_19 (by decide) ?_
            refine jr_icmp_leN (tgt := 28) (pc := 22) C dX0_advance_22 (by decide) (by omega) (by omega) (fun c_22 => ?_) (fun c_22 => ?_)
            · exfalso; omega
            · refine jr_bipush (pc := 25) (v := (-2)) C dX0_advance_25 (by decide) ?_
              exact hret _ _ _ _ dX0_advance_27 ⟨rfl, xw_in hr⟩
          · exfalso; omega
      · rw [show sp_advance (nI k) G = (nI (jg_td G + k), (jg_lv G, jg_n G, jg_V G, jg_dv G, jg_pv G, jg_td G + k)) from by simp only [sp_advance, hq, if_neg hk0, if_neg h5]]
        refine jw_Mi.of (own := RX0) (by decide) rfl (Nat.le_of_ble_eq_true rfl) (fun _ _ _ => rfl) ?_
        intro E hE C hret
        subst hE
        show jw_J E 2 _ 0 [(0, .ref h), (1, .int (nI k))] []
        refine jr_iload_n (pc := 0) C dX0_advance_0 rfl ?_
        refine jr_iconst (pc := 1) (v := nI 1) C dX0_advance_1 (by decide) ?_
        refine jr_icmp_ltN (tgt := 11) (pc := 2) C dX0_advance_2 (by decide) (by omega) (by omega) (fun c_2 => ?_) (fun c_2 => ?_)
        · exfalso; omega
        · refine jr_iload_n (pc := 5) C dX0_advance_5 rfl ?_
          refine jr_bipush (pc := 6) (v := nI 60) C dX0_advance_6 (by decide) ?_
          refine jr_icmp_leN (tgt := 13) (pc := 8) C dX0_advance_8 (by decide) (by omega) (by omega) (fun c_8 => ?_) (fun c_8 => ?_)
          · refine jr_aload_n (pc := 13) C dX0_advance_13 rfl ?_
            refine jx_g_td (pc := 14) C dX0_advance_14 ?_
            refine jr_iload_n (pc := 17) C dX0_advance_17 rfl ?_
            refine jr_iaddN (pc := 18) C dX0_advance_18 ?_
            refine jr_sipush (pc := 19) (v := nI 5000) C dX0_advance_19 (by decide) ?_
            refine jr_icmp_leN (tgt := 28) (pc := 22) C dX0_advance_22 (by decide) (by omega) (by omega) (fun c_22 => ?_) (fun c_22 => ?_)
            · refine jr_aload_n (pc := 28) C dX0_advance_28 rfl ?_
              refine jr_dup (pc := 29) C dX0_advance_29 rfl ?_
              refine jx_g_td (pc := 30) C dX0_advance_30 ?_
              refine jr_iload_n (pc := 33) C dX0_advance_33 rfl ?_
              refine jr_iaddN (pc := 34) C dX0_advance_34 ?_
              refine jx_p_td (pc := 35) C dX0_advance_35 ?_
              refine jr_aload_n (pc := 38) C dX0_advance_38 rfl ?_
              refine jx_g_td (pc := 39) C dX0_advance_39 ?_
              refine hret _ _ _ _ dX0_advance_42 ?_
              refine ⟨rfl, kp, lc, o, bs, en, pr, ct, dy, pn, tc, tk, lm, rfl, ?_⟩
              obtain ⟨a1, a2, a3, a4, a5, a6, a7, a8, a9, a10, a11, a12, a13⟩ := hr
              exact ⟨a1, Nat.not_lt.mp h5, a3, a4, a5, a6, fun p hp => ⟨(a7 p hp).1, (a7 p hp).2.1, Nat.le_trans (a7 p hp).2.2 (Nat.le_add_right _ _)⟩, a8, a9, a10, a11, a12, a13⟩
            · exfalso; omega
          · exfalso; omega
/-- restoreFile -/
theorem mX_restoreFile (hr : xr_R G lc o bs en pr ct dy pn tc tk lm) (a : Int32) (b : Int32) : jw_Mi yX0_restoreFile cX0_restoreFile 3 (some .int) 4 D (tX cA) [.ref h, .int a, .int b] (wX h ad cA lc o bs en pr ct dy pn tc tk kp lm (jg_n G) (jg_td G)) (fun r w' => r = (sp_restoreFile a b G).1 ∧ xw_R h ad cA (sp_restoreFile a b G).2 w') := by
  have hn := xr_n hr
  cases hq : jp_ix a (jg_n G) with
  | none =>
    rw [show sp_restoreFile a b G = (-1, G) from by simp only [sp_restoreFile, hq]]
    refine jw_Mi.of (own := RX0) (by decide) rfl (Nat.le_of_ble_eq_true rfl) (fun _ _ _ => rfl) ?_
    intro E hE C hret
    subst hE
    show jw_J E 3 _ 0 [(0, .ref h), (1, .int a), (2, .int b)] []
    refine jr_aload_n (pc := 0) C dX0_restoreFile_0 rfl ?_
    refine jr_iload_n (pc := 1) C dX0_restoreFile_1 rfl ?_
    refine jr_calli (pc := 2) C gw_X0_75 ok_X0_isPoint (mX_isPoint _ (by omega)) rfl (by decide) (by decide) rfl rfl dX0_restoreFile_2 rfl (Nat.le_of_ble_eq_true rfl) ?_
    rintro _ _ ⟨rfl, rfl⟩
    refine jr_if_neB (tgt := 10) (pc := 5) C dX0_restoreFile_5 (by decide) (fun c_5 => ?_) (fun c_5 => ?_)
    · simp [hq] at c_5
    · refine jr_iconst (pc := 8) (v := (-1)) C dX0_restoreFile_8 (by decide) ?_
      exact hret _ _ _ _ dX0_restoreFile_9 ⟨rfl, xw_in hr⟩
  | some p =>
    obtain ⟨hp, rfl⟩ := jp_ix_some hq
    cases hq2 : jp_ix b 16 with
    | none =>
      rw [show sp_restoreFile (nI p) b G = (-2, G) from by simp only [sp_restoreFile, hq, hq2]]
      refine jw_Mi.of (own := RX0) (by decide) rfl (Nat.le_of_ble_eq_true rfl) (fun _ _ _ => rfl) ?_
      intro E hE C hret
      subst hE
      show jw_J E 3 _ 0 [(0, .ref h), (1, .int (nI p)), (2, .int b)] []
      refine jr_aload_n (pc := 0) C dX0_restoreFile_0 rfl ?_
      refine jr_iload_n (pc := 1) C dX0_restoreFile_1 rfl ?_
      refine jr_calli (pc := 2) C gw_X0_75 ok_X0_isPoint (mX_isPoint _ (by omega)) rfl (by decide) (by decide) rfl rfl dX0_restoreFile_2 rfl (Nat.le_of_ble_eq_true rfl) ?_
      rintro _ _ ⟨rfl, rfl⟩
      refine jr_if_neB (tgt := 10) (pc := 5) C dX0_restoreFile_5 (by decide) (fun c_5 => ?_) (fun c_5 => ?_)
      · refine jr_iload_n (pc := 10) C dX0_restoreFile_10 rfl ?_
        refine jr_calls (pc := 11) C gw_X0_48 ok_X0_isFile (mX_isFile _) rfl (by decide) (by decide) dX0_restoreFile_11 rfl (Nat.le_of_ble_eq_true rfl) ?_
        rintro _ _ ⟨rfl, rfl⟩
        refine jr_if_eqB (tgt := 31) (pc := 14) C dX0_restoreFile_14 (by decide) (fun c_14 => ?_) (fun c_14 => ?_)
        · refine jr_bipush (pc := 31) (v := (-2)) C dX0_restoreFile_31 (by decide) ?_
          exact hret _ _ _ _ dX0_restoreFile_33 ⟨rfl, xw_in hr⟩
        · simp [hq2] at c_14
      · simp [hq] at c_5
    | some f =>
      obtain ⟨hf, rfl⟩ := jp_ix_some hq2
      rw [show sp_restoreFile (nI p) (nI f) G = (jp_b (jp_ne (jg_V G p f) (jg_lv G f)), jg_sl G (va_up (jg_lv G) f (jg_V G p f))) from by simp only [sp_restoreFile, hq, hq2]]
      refine jw_Mi.of (own := RX0) (by decide) rfl (Nat.le_of_ble_eq_true rfl) (fun _ _ _ => rfl) ?_
      intro E hE C hret
      subst hE
      show jw_J E 3 _ 0 [(0, .ref h), (1, .int (nI p)), (2, .int (nI f))] []
      refine jr_aload_n (pc := 0) C dX0_restoreFile_0 rfl ?_
      refine jr_iload_n (pc := 1) C dX0_restoreFile_1 rfl ?_
      refine jr_calli (pc := 2) C gw_X0_75 ok_X0_isPoint (mX_isPoint _ (by omega)) rfl (by decide) (by decide) rfl rfl dX0_restoreFile_2 rfl (Nat.le_of_ble_eq_true rfl) ?_
      rintro _ _ ⟨rfl, rfl⟩
      refine jr_if_neB (tgt := 10) (pc := 5) C dX0_restoreFile_5 (by decide) (fun c_5 => ?_) (fun c_5 => ?_)
      · refine jr_iload_n (pc := 10) C dX0_restoreFile_10 rfl ?_
        refine jr_calls (pc := 11) C gw_X0_48 ok_X0_isFile (mX_isFile _) rfl (by decide) (by decide) dX0_restoreFile_11 rfl (Nat.le_of_ble_eq_true rfl) ?_
        rintro _ _ ⟨rfl, rfl⟩
        refine jr_if_eqB (tgt := 31) (pc := 14) C dX0_restoreFile_14 (by decide) (fun c_14 => ?_) (fun c_14 => ?_)
        · simp [hq2] at c_14
        · refine jr_aload_n (pc := 17) C dX0_restoreFile_17 rfl ?_
          refine jr_aload_n (pc := 18) C dX0_restoreFile_18 rfl ?_
          refine jx_g_o (pc := 19) C dX0_restoreFile_19 ?_
          refine jr_iload_n (pc := 22) C dX0_restoreFile_22 rfl ?_
          refine jx_l_o (pc := 23) C (by omega) dX0_restoreFile_23 ?_
          refine jr_iload_n (pc := 24) C dX0_restoreFile_24 rfl ?_
          refine jr_calli (pc := 25) C gw_X0_78 ok_X0_bring (mX_bring hr hp hf) rfl (by decide) (by decide) rfl rfl dX0_restoreFile_25 rfl (Nat.le_of_ble_eq_true rfl) ?_
          rintro _ w1 ⟨rfl, hw1⟩
          refine jr_goto (tgt := 33) (pc := 28) C dX0_restoreFile_28 (by decide) ?_
          exact hret _ _ _ _ dX0_restoreFile_33 ⟨rfl, kp, hw1⟩
      · simp [hq] at c_5
/-- pin -/
theorem mX_pin (hr : xr_R G lc o bs en pr ct dy pn tc tk lm) (a : Int32) (b : Int32) : jw_Mi yX0_pin cX0_pin 4 (some .int) 1 D (tX cA) [.ref h, .int a, .int b] (wX h ad cA lc o bs en pr ct dy pn tc tk kp lm (jg_n G) (jg_td G)) (fun r w' => r = (sp_pin a b G).1 ∧ xw_R h ad cA (sp_pin a b G).2 w') := by
  have hn := xr_n hr
  cases hq : jp_ix a (jg_n G) with
  | none =>
    rw [show sp_pin a b G = (-1, G) from by simp only [sp_pin, hq]]
    refine jw_Mi.of (own := RX0) (by decide) rfl (Nat.le_of_ble_eq_true rfl) (fun _ _ _ => rfl) ?_
    intro E hE C hret
    subst hE
    show jw_J E 4 _ 0 [(0, .ref h), (1, .int a), (2, .int b)] []
    refine jr_aload_n (pc := 0) C dX0_pin_0 rfl ?_
    refine jr_iload_n (pc := 1) C dX0_pin_1 rfl ?_
    refine jr_calli (pc := 2) C gw_X0_75 ok_X0_isPoint (mX_isPoint _ (by omega)) rfl (by decide) (by decide) rfl rfl dX0_pin_2 rfl (Nat.le_of_ble_eq_true rfl) ?_
    rintro _ _ ⟨rfl, rfl⟩
    refine jr_if_neB (tgt := 10) (pc := 5) C dX0_pin_5 (by decide) (fun c_5 => ?_) (fun c_5 => ?_)
    · simp [hq] at c_5
    · refine jr_iconst (pc := 8) (v := (-1)) C dX0_pin_8 (by decide) ?_
      exact hret _ _ _ _ dX0_pin_9 ⟨rfl, xw_in hr⟩
  | some p =>
    obtain ⟨hp, rfl⟩ := jp_ix_some hq
    rw [show sp_pin (nI p) b G = (jp_b (jg_pv G p), (jg_lv G, jg_n G, jg_V G, jg_dv G, va_up (jg_pv G) p (decide (¬ b = 0)), jg_td G)) from by simp only [sp_pin, hq]]
    have hop := xr_o hr hp
    have hdp := xr_dp hr hp
    have hR : ∀ v, xr_R (jg_lv G, jg_n G, jg_V G, jg_dv G, va_up (jg_pv G) p v, jg_td G) lc o bs en pr ct dy (va_up pn (o p) v) tc tk lm := by
      intro v
      obtain ⟨a1, a2, a3, a4, a5, a6, a7, a8, a9, a10, a11, a12, a13⟩ := hr
      refine ⟨a1, a2, a3, a4, a5, a6, fun q hq => ⟨(a7 q hq).1, ?_, (a7 q hq).2.2⟩, a8, a9, a10, a11, a12, a13⟩
      show va_up pn (o p) v (o q) = va_up (jg_pv G) p v q
      unfold va_up
      by_cases e : q = p
      · rw [e, if_pos rfl, if_pos rfl]
      · rw [if_neg e, if_neg (fun z => e (a4 q p hq hp z))]
        exact (a7 q hq).2.1
    refine jw_Mi.of (own := RX0) (by decide) rfl (Nat.le_of_ble_eq_true rfl) (fun _ _ _ => rfl) ?_
    intro E hE C hret
    subst hE
    show jw_J E 4 _ 0 [(0, .ref h), (1, .int (nI p)), (2, .int b)] []
    refine jr_aload_n (pc := 0) C dX0_pin_0 rfl ?_
    refine jr_iload_n (pc := 1) C dX0_pin_1 rfl ?_
    refine jr_calli (pc := 2) C gw_X0_75 ok_X0_isPoint (mX_isPoint _ (by omega)) rfl (by decide) (by decide) rfl rfl dX0_pin_2 rfl (Nat.le_of_ble_eq_true rfl) ?_
    rintro _ _ ⟨rfl, rfl⟩
    refine jr_if_neB (tgt := 10) (pc := 5) C dX0_pin_5 (by decide) (fun c_5 => ?_) (fun c_5 => ?_)
    · refine jr_aload_n (pc := 10) C dX0_pin_10 rfl ?_
      refine jx_g_pn (pc := 11) C dX0_pin_11 ?_
      refine jr_aload_n (pc := 14) C dX0_pin_14 rfl ?_
      refine jx_g_o (pc := 15) C dX0_pin_15 ?_
      refine jr_iload_n (pc := 18) C dX0_pin_18 rfl ?_
      refine jx_l_o (pc := 19) C (by omega) dX0_pin_19 ?_
      refine jx_l_pn (pc := 20) C (by omega) dX0_pin_20 ?_
      refine jr_if_eqB (tgt := 28) (pc := 21) C dX0_pin_21 (by decide) (fun c_21 => ?_) (fun c_21 => ?_)
      · refine jr_iconst (pc := 28) (v := jp_b false) C dX0_pin_28 (by decide) ?_
        refine jr_istore_n (pc := 29) C dX0_pin_29 (by decide) rfl ?_
        refine jr_aload_n (pc := 30) C dX0_pin_30 rfl ?_
        refine jx_g_pn (pc := 31) C dX0_pin_31 ?_
        refine jr_aload_n (pc := 34) C dX0_pin_34 rfl ?_
        refine jx_g_o (pc := 35) C dX0_pin_35 ?_
        refine jr_iload_n (pc := 38) C dX0_pin_38 rfl ?_
        refine jx_l_o (pc := 39) C (by omega) dX0_pin_39 ?_
        refine jr_iload_n (pc := 40) C dX0_pin_40 rfl ?_
        refine jr_if_eq (tgt := 48) (pc := 41) C dX0_pin_41 (by decide) (fun c_41 => ?_) (fun c_41 => ?_)
        · refine jr_iconst (pc := 48) (v := jp_b false) C dX0_pin_48 (by decide) ?_
          refine jx_s_pn (pc := 49) C (by omega) dX0_pin_49 ?_
          refine jr_iload_n (pc := 50) C dX0_pin_50 rfl ?_
          refine hret _ _ _ _ dX0_pin_51 ?_
          refine ⟨by rw [← hdp.2.1, c_21], kp, lc, o, bs, en, pr, ct, dy, _, tc, tk, lm, rfl, ?_⟩
          simp only [c_41, not_true_eq_false, not_false_eq_true, decide_true, decide_false]
          exact hR _
        · refine jr_iconst (pc := 44) (v := jp_b true) C dX0_pin_44 (by decide) ?_
          refine jr_goto (tgt := 49) (pc := 45) C dX0_pin_45 (by decide) ?_
          refine jx_s_pn (pc := 49) C (by omega) dX0_pin_49 ?_
          refine jr_iload_n (pc := 50) C dX0_pin_50 rfl ?_
          refine hret _ _ _ _ dX0_pin_51 ?_
          refine ⟨by rw [← hdp.2.1, c_21], kp, lc, o, bs, en, pr, ct, dy, _, tc, tk, lm, rfl, ?_⟩
          simp only [c_41, not_true_eq_false, not_false_eq_true, decide_true, decide_false]
          exact hR _
      · refine jr_iconst (pc := 24) (v := jp_b true) C dX0_pin_24 (by decide) ?_
        refine jr_goto (tgt := 29) (pc := 25) C dX0_pin_25 (by decide) ?_
        refine jr_istore_n (pc := 29) C dX0_pin_29 (by decide) rfl ?_
        refine jr_aload_n (pc := 30) C dX0_pin_30 rfl ?_
        refine jx_g_pn (pc := 31) C dX0_pin_31 ?_
        refine jr_aload_n (pc := 34) C dX0_pin_34 rfl ?_
        refine jx_g_o (pc := 35) C dX0_pin_35 ?_
        refine jr_iload_n (pc := 38) C dX0_pin_38 rfl ?_
        refine jx_l_o (pc := 39) C (by omega) dX0_pin_39 ?_
        refine jr_iload_n (pc := 40) C dX0_pin_40 rfl ?_
        refine jr_if_eq (tgt := 48) (pc := 41) C dX0_pin_41 (by decide) (fun c_41 => ?_) (fun c_41 => ?_)
        · refine jr_iconst (pc := 48) (v := jp_b false) C dX0_pin_48 (by decide) ?_
          refine jx_s_pn (pc := 49) C (by omega) dX0_pin_49 ?_
          refine jr_iload_n (pc := 50) C dX0_pin_50 rfl ?_
          refine hret _ _ _ _ dX0_pin_51 ?_
          refine ⟨by rw [← hdp.2.1, c_21], kp, lc, o, bs, en, pr, ct, dy, _, tc, tk, lm, rfl, ?_⟩
          simp only [c_41, not_true_eq_false, not_false_eq_true, decide_true, decide_false]
          exact hR _
        · refine jr_iconst (pc := 44) (v := jp_b true) C dX0_pin_44 (by decide) ?_
          refine jr_goto (tgt := 49) (pc := 45) C dX0_pin_45 (by decide) ?_
          refine jx_s_pn (pc := 49) C (by omega) dX0_pin_49 ?_
          refine jr_iload_n (pc := 50) C dX0_pin_50 rfl ?_
          refine hret _ _ _ _ dX0_pin_51 ?_
          refine ⟨by rw [← hdp.2.1, c_21], kp, lc, o, bs, en, pr, ct, dy, _, tc, tk, lm, rfl, ?_⟩
          simp only [c_41, not_true_eq_false, not_false_eq_true, decide_true, decide_false]
          exact hR _
    · simp [hq] at c_5
/-- dayOf -/
theorem mX_dayOf (hr : xr_R G lc o bs en pr ct dy pn tc tk lm) (a : Int32) : jw_Mi yX0_dayOf cX0_dayOf 2 (some .int) 1 D (tX cA) [.ref h, .int a] (wX h ad cA lc o bs en pr ct dy pn tc tk kp lm (jg_n G) (jg_td G)) (fun r w' => r = (sp_dayOf a G).1 ∧ xw_R h ad cA (sp_dayOf a G).2 w') := by
  have hn := xr_n hr
  cases hq : jp_ix a (jg_n G) with
  | none =>
    rw [show sp_dayOf a G = (-1, G) from by simp only [sp_dayOf, hq]]
    refine jw_Mi.of (own := RX0) (by decide) rfl (Nat.le_of_ble_eq_true rfl) (fun _ _ _ => rfl) ?_
    intro E hE C hret
    subst hE
    show jw_J E 2 _ 0 [(0, .ref h), (1, .int a)] []
    refine jr_aload_n (pc := 0) C dX0_dayOf_0 rfl ?_
    refine jr_iload_n (pc := 1) C dX0_dayOf_1 rfl ?_
    refine jr_calli (pc := 2) C gw_X0_75 ok_X0_isPoint (mX_isPoint _ (by omega)) rfl (by decide) (by decide) rfl rfl dX0_dayOf_2 rfl (Nat.le_of_ble_eq_true rfl) ?_
    rintro _ _ ⟨rfl, rfl⟩
    refine jr_if_eqB (tgt := 22) (pc := 5) C dX0_dayOf_5 (by decide) (fun c_5 => ?_) (fun c_5 => ?_)
    · refine jr_iconst (pc := 22) (v := (-1)) C dX0_dayOf_22 (by decide) ?_
      exact hret _ _ _ _ dX0_dayOf_23 ⟨rfl, xw_in hr⟩
    · simp [hq] at c_5
  | some p =>
    obtain ⟨hp, rfl⟩ := jp_ix_some hq
    rw [show sp_dayOf (nI p) G = (nI (jg_dv G p), G) from by simp only [sp_dayOf, hq]]
    have hop := xr_o hr hp
    have hdp := xr_dp hr hp
    refine jw_Mi.of (own := RX0) (by decide) rfl (Nat.le_of_ble_eq_true rfl) (fun _ _ _ => rfl) ?_
    intro E hE C hret
    subst hE
    show jw_J E 2 _ 0 [(0, .ref h), (1, .int (nI p))] []
    refine jr_aload_n (pc := 0) C dX0_dayOf_0 rfl ?_
    refine jr_iload_n (pc := 1) C dX0_dayOf_1 rfl ?_
    refine jr_calli (pc := 2) C gw_X0_75 ok_X0_isPoint (mX_isPoint _ (by omega)) rfl (by decide) (by decide) rfl rfl dX0_dayOf_2 rfl (Nat.le_of_ble_eq_true rfl) ?_
    rintro _ _ ⟨rfl, rfl⟩
    refine jr_if_eqB (tgt := 22) (pc := 5) C dX0_dayOf_5 (by decide) (fun c_5 => ?_) (fun c_5 => ?_)
    · simp [hq] at c_5
    · refine jr_aload_n (pc := 8) C dX0_dayOf_8 rfl ?_
      refine jx_g_dy (pc := 9) C dX0_dayOf_9 ?_
      refine jr_aload_n (pc := 12) C dX0_dayOf_12 rfl ?_
      refine jx_g_o (pc := 13) C dX0_dayOf_13 ?_
      refine jr_iload_n (pc := 16) C dX0_dayOf_16 rfl ?_
      refine jx_l_o (pc := 17) C (by omega) dX0_dayOf_17 ?_
      refine jx_l_dy (pc := 18) C (by omega) dX0_dayOf_18 ?_
      refine jr_goto (tgt := 23) (pc := 19) C dX0_dayOf_19 (by decide) ?_
      exact hret _ _ _ _ dX0_dayOf_23 ⟨by rw [hdp.1], xw_in hr⟩
/-- pinned -/
theorem mX_pinned (hr : xr_R G lc o bs en pr ct dy pn tc tk lm) (a : Int32) : jw_Mi yX0_pinned cX0_pinned 2 (some .int) 1 D (tX cA) [.ref h, .int a] (wX h ad cA lc o bs en pr ct dy pn tc tk kp lm (jg_n G) (jg_td G)) (fun r w' => r = (sp_pinned a G).1 ∧ xw_R h ad cA (sp_pinned a G).2 w') := by
  have hn := xr_n hr
  cases hq : jp_ix a (jg_n G) with
  | none =>
    rw [show sp_pinned a G = (-1, G) from by simp only [sp_pinned, hq]]
    refine jw_Mi.of (own := RX0) (by decide) rfl (Nat.le_of_ble_eq_true rfl) (fun _ _ _ => rfl) ?_
    intro E hE C hret
    subst hE
    show jw_J E 2 _ 0 [(0, .ref h), (1, .int a)] []
    refine jr_aload_n (pc := 0) C dX0_pinned_0 rfl ?_
    refine jr_iload_n (pc := 1) C dX0_pinned_1 rfl ?_
    refine jr_calli (pc := 2) C gw_X0_75 ok_X0_isPoint (mX_isPoint _ (by omega)) rfl (by decide) (by decide) rfl rfl dX0_pinned_2 rfl (Nat.le_of_ble_eq_true rfl) ?_
    rintro _ _ ⟨rfl, rfl⟩
    refine jr_if_neB (tgt := 10) (pc := 5) C dX0_pinned_5 (by decide) (fun c_5 => ?_) (fun c_5 => ?_)
    · simp [hq] at c_5
    · refine jr_iconst (pc := 8) (v := (-1)) C dX0_pinned_8 (by decide) ?_
      exact hret _ _ _ _ dX0_pinned_9 ⟨rfl, xw_in hr⟩
  | some p =>
    obtain ⟨hp, rfl⟩ := jp_ix_some hq
    rw [show sp_pinned (nI p) G = (jp_b (jg_pv G p), G) from by simp only [sp_pinned, hq]]
    have hop := xr_o hr hp
    have hdp := xr_dp hr hp
    refine jw_Mi.of (own := RX0) (by decide) rfl (Nat.le_of_ble_eq_true rfl) (fun _ _ _ => rfl) ?_
    intro E hE C hret
    subst hE
    show jw_J E 2 _ 0 [(0, .ref h), (1, .int (nI p))] []
    refine jr_aload_n (pc := 0) C dX0_pinned_0 rfl ?_
    refine jr_iload_n (pc := 1) C dX0_pinned_1 rfl ?_
    refine jr_calli (pc := 2) C gw_X0_75 ok_X0_isPoint (mX_isPoint _ (by omega)) rfl (by decide) (by decide) rfl rfl dX0_pinned_2 rfl (Nat.le_of_ble_eq_true rfl) ?_
    rintro _ _ ⟨rfl, rfl⟩
    refine jr_if_neB (tgt := 10) (pc := 5) C dX0_pinned_5 (by decide) (fun c_5 => ?_) (fun c_5 => ?_)
    · refine jr_aload_n (pc := 10) C dX0_pinned_10 rfl ?_
      refine jx_g_pn (pc := 11) C dX0_pinned_11 ?_
      refine jr_aload_n (pc := 14) C dX0_pinned_14 rfl ?_
      refine jx_g_o (pc := 15) C dX0_pinned_15 ?_
      refine jr_iload_n (pc := 18) C dX0_pinned_18 rfl ?_
      refine jx_l_o (pc := 19) C (by omega) dX0_pinned_19 ?_
      refine jx_l_pn (pc := 20) C (by omega) dX0_pinned_20 ?_
      refine jr_if_eqB (tgt := 28) (pc := 21) C dX0_pinned_21 (by decide) (fun c_21 => ?_) (fun c_21 => ?_)
      · refine jr_iconst (pc := 28) (v := jp_b false) C dX0_pinned_28 (by decide) ?_
        exact hret _ _ _ _ dX0_pinned_29 ⟨by rw [← hdp.2.1, c_21], xw_in hr⟩
      · refine jr_iconst (pc := 24) (v := jp_b true) C dX0_pinned_24 (by decide) ?_
        refine jr_goto (tgt := 29) (pc := 25) C dX0_pinned_25 (by decide) ?_
        exact hret _ _ _ _ dX0_pinned_29 ⟨by rw [← hdp.2.1, c_21], xw_in hr⟩
    · simp [hq] at c_5
/-- there -/
theorem mX_there (hr : xr_R G lc o bs en pr ct dy pn tc tk lm) (a : Int32) (b : Int32) : jw_Mi yX0_there cX0_there 4 (some .int) 2 D (tX cA) [.ref h, .int a, .int b] (wX h ad cA lc o bs en pr ct dy pn tc tk kp lm (jg_n G) (jg_td G)) (fun r w' => r = (sp_there a b G).1 ∧ xw_R h ad cA (sp_there a b G).2 w') := by
  have hn := xr_n hr
  cases hq : jp_ix a (jg_n G) with
  | none =>
    rw [show sp_there a b G = (-1, G) from by simp only [sp_there, hq]]
    refine jw_Mi.of (own := RX0) (by decide) rfl (Nat.le_of_ble_eq_true rfl) (fun _ _ _ => rfl) ?_
    intro E hE C hret
    subst hE
    show jw_J E 4 _ 0 [(0, .ref h), (1, .int a), (2, .int b)] []
    refine jr_aload_n (pc := 0) C dX0_there_0 rfl ?_
    refine jr_iload_n (pc := 1) C dX0_there_1 rfl ?_
    refine jr_calli (pc := 2) C gw_X0_75 ok_X0_isPoint (mX_isPoint _ (by omega)) rfl (by decide) (by decide) rfl rfl dX0_there_2 rfl (Nat.le_of_ble_eq_true rfl) ?_
    rintro _ _ ⟨rfl, rfl⟩
    refine jr_if_neB (tgt := 10) (pc := 5) C dX0_there_5 (by decide) (fun c_5 => ?_) (fun c_5 => ?_)
    · simp [hq] at c_5
    · refine jr_iconst (pc := 8) (v := (-1)) C dX0_there_8 (by decide) ?_
      exact hret _ _ _ _ dX0_there_9 ⟨rfl, xw_in hr⟩
  | some p =>
    obtain ⟨hp, rfl⟩ := jp_ix_some hq
    cases hq2 : jp_ix b 16 with
    | none =>
      rw [show sp_there (nI p) b G = (-2, G) from by simp only [sp_there, hq, hq2]]
      refine jw_Mi.of (own := RX0) (by decide) rfl (Nat.le_of_ble_eq_true rfl) (fun _ _ _ => rfl) ?_
      intro E hE C hret
      subst hE
      show jw_J E 4 _ 0 [(0, .ref h), (1, .int (nI p)), (2, .int b)] []
      refine jr_aload_n (pc := 0) C dX0_there_0 rfl ?_
      refine jr_iload_n (pc := 1) C dX0_there_1 rfl ?_
      refine jr_calli (pc := 2) C gw_X0_75 ok_X0_isPoint (mX_isPoint _ (by omega)) rfl (by decide) (by decide) rfl rfl dX0_there_2 rfl (Nat.le_of_ble_eq_true rfl) ?_
      rintro _ _ ⟨rfl, rfl⟩
      refine jr_if_neB (tgt := 10) (pc := 5) C dX0_there_5 (by decide) (fun c_5 => ?_) (fun c_5 => ?_)
      · refine jr_iload_n (pc := 10) C dX0_there_10 rfl ?_
        refine jr_calls (pc := 11) C gw_X0_48 ok_X0_isFile (mX_isFile _) rfl (by decide) (by decide) dX0_there_11 rfl (Nat.le_of_ble_eq_true rfl) ?_
        rintro _ _ ⟨rfl, rfl⟩
        refine jr_if_neB (tgt := 20) (pc := 14) C dX0_there_14 (by decide) (fun c_14 => ?_) (fun c_14 => ?_)
        · simp [hq2] at c_14
        · refine jr_bipush (pc := 17) (v := (-2)) C dX0_there_17 (by decide) ?_
          exact hret _ _ _ _ dX0_there_19 ⟨rfl, xw_in hr⟩
      · simp [hq] at c_5
    | some f =>
      obtain ⟨hf, rfl⟩ := jp_ix_some hq2
      rw [show sp_there (nI p) (nI f) G = (jp_b (jg_V G p f).isSome, G) from by simp only [sp_there, hq, hq2]]
      refine jw_Mi.of (own := RX0) (by decide) rfl (Nat.le_of_ble_eq_true rfl) (fun _ _ _ => rfl) ?_
      intro E hE C hret
      subst hE
      show jw_J E 4 _ 0 [(0, .ref h), (1, .int (nI p)), (2, .int (nI f))] []
      refine jr_aload_n (pc := 0) C dX0_there_0 rfl ?_
      refine jr_iload_n (pc := 1) C dX0_there_1 rfl ?_
      refine jr_calli (pc := 2) C gw_X0_75 ok_X0_isPoint (mX_isPoint _ (by omega)) rfl (by decide) (by decide) rfl rfl dX0_there_2 rfl (Nat.le_of_ble_eq_true rfl) ?_
      rintro _ _ ⟨rfl, rfl⟩
      refine jr_if_neB (tgt := 10) (pc := 5) C dX0_there_5 (by decide) (fun c_5 => ?_) (fun c_5 => ?_)
      · refine jr_iload_n (pc := 10) C dX0_there_10 rfl ?_
        refine jr_calls (pc := 11) C gw_X0_48 ok_X0_isFile (mX_isFile _) rfl (by decide) (by decide) dX0_there_11 rfl (Nat.le_of_ble_eq_true rfl) ?_
        rintro _ _ ⟨rfl, rfl⟩
        refine jr_if_neB (tgt := 20) (pc := 14) C dX0_there_14 (by decide) (fun c_14 => ?_) (fun c_14 => ?_)
        · refine jr_aload_n (pc := 20) C dX0_there_20 rfl ?_
          refine jr_aload_n (pc := 21) C dX0_there_21 rfl ?_
          refine jx_g_o (pc := 22) C dX0_there_22 ?_
          refine jr_iload_n (pc := 25) C dX0_there_25 rfl ?_
          refine jx_l_o (pc := 26) C (by omega) dX0_there_26 ?_
          refine jr_iload_n (pc := 27) C dX0_there_27 rfl ?_
          refine jr_calli (pc := 28) C gw_X0_90 ok_X0_holder (mX_holder hr hp hf) rfl (by decide) (by decide) rfl rfl dX0_there_28 rfl (Nat.le_of_ble_eq_true rfl) ?_
          rintro _ _ ⟨⟨q0, hq0, rfl, he0, hv0⟩, rfl⟩
          have ho0 := xr_o hr (p := q0) (by omega)
          have hE0 := xr_E hr (p := q0) (by omega) hf he0
          refine jr_istore_n (pc := 31) C dX0_there_31 (by decide) rfl ?_
          refine jr_aload_n (pc := 32) C dX0_there_32 rfl ?_
          refine jx_g_pr (pc := 33) C dX0_there_33 ?_
          refine jr_iload_n (pc := 36) C dX0_there_36 rfl ?_
          refine jx_l_pr (pc := 37) C (by omega) dX0_there_37 ?_
          refine jr_iload_n (pc := 38) C dX0_there_38 rfl ?_
          refine jr_ishr (pc := 39) C dX0_there_39 ?_
          refine jr_iconst (pc := 40) (v := nI 1) C dX0_there_40 (by decide) ?_
          refine jr_iand (pc := 41) C dX0_there_41 ?_
          exact hret _ _ _ _ dX0_there_42 ⟨by rw [show nI 1 = 1 from rfl, jp_has hf, ← hv0, ← hE0, jp_vl_is], xw_in hr⟩
        · simp [hq2] at c_14
      · simp [hq] at c_5
/-- content -/
theorem mX_content (hr : xr_R G lc o bs en pr ct dy pn tc tk lm) (a : Int32) (b : Int32) : jw_Mi yX0_content cX0_content 4 (some .int) 2 D (tX cA) [.ref h, .int a, .int b] (wX h ad cA lc o bs en pr ct dy pn tc tk kp lm (jg_n G) (jg_td G)) (fun r w' => r = (sp_content a b G).1 ∧ xw_R h ad cA (sp_content a b G).2 w') := by
  have hn := xr_n hr
  cases hq : jp_ix a (jg_n G) with
  | none =>
    rw [show sp_content a b G = (0, G) from by simp only [sp_content, hq]]
    refine jw_Mi.of (own := RX0) (by decide) rfl (Nat.le_of_ble_eq_true rfl) (fun _ _ _ => rfl) ?_
    intro E hE C hret
    subst hE
    show jw_J E 4 _ 0 [(0, .ref h), (1, .int a), (2, .int b)] []
    refine jr_aload_n (pc := 0) C dX0_content_0 rfl ?_
    refine jr_iload_n (pc := 1) C dX0_content_1 rfl ?_
    refine jr_calli (pc := 2) C gw_X0_75 ok_X0_isPoint (mX_isPoint _ (by omega)) rfl (by decide) (by decide) rfl rfl dX0_content_2 rfl (Nat.le_of_ble_eq_true rfl) ?_
    rintro _ _ ⟨rfl, rfl⟩
    refine jr_if_eqB (tgt := 15) (pc := 5) C dX0_content_5 (by decide) (fun c_5 => ?_) (fun c_5 => ?_)
    · refine jr_iconst (pc := 15) (v := nI 0) C dX0_content_15 (by decide) ?_
      exact hret _ _ _ _ dX0_content_16 ⟨rfl, xw_in hr⟩
    · simp [hq] at c_5
  | some p =>
    obtain ⟨hp, rfl⟩ := jp_ix_some hq
    cases hq2 : jp_ix b 16 with
    | none =>
      rw [show sp_content (nI p) b G = (0, G) from by simp only [sp_content, hq, hq2]]
      refine jw_Mi.of (own := RX0) (by decide) rfl (Nat.le_of_ble_eq_true rfl) (fun _ _ _ => rfl) ?_
      intro E hE C hret
      subst hE
      show jw_J E 4 _ 0 [(0, .ref h), (1, .int (nI p)), (2, .int b)] []
      refine jr_aload_n (pc := 0) C dX0_content_0 rfl ?_
      refine jr_iload_n (pc := 1) C dX0_content_1 rfl ?_
      refine jr_calli (pc := 2) C gw_X0_75 ok_X0_isPoint (mX_isPoint _ (by omega)) rfl (by decide) (by decide) rfl rfl dX0_content_2 rfl (Nat.le_of_ble_eq_true rfl) ?_
      rintro _ _ ⟨rfl, rfl⟩
      refine jr_if_eqB (tgt := 15) (pc := 5) C dX0_content_5 (by decide) (fun c_5 => ?_) (fun c_5 => ?_)
      · simp [hq] at c_5
      · refine jr_iload_n (pc := 8) C dX0_content_8 rfl ?_
        refine jr_calls (pc := 9) C gw_X0_48 ok_X0_isFile (mX_isFile _) rfl (by decide) (by decide) dX0_content_9 rfl (Nat.le_of_ble_eq_true rfl) ?_
        rintro _ _ ⟨rfl, rfl⟩
        refine jr_if_neB (tgt := 17) (pc := 12) C dX0_content_12 (by decide) (fun c_12 => ?_) (fun c_12 => ?_)
        · simp [hq2] at c_12
        · refine jr_iconst (pc := 15) (v := nI 0) C dX0_content_15 (by decide) ?_
          exact hret _ _ _ _ dX0_content_16 ⟨rfl, xw_in hr⟩
    | some f =>
      obtain ⟨hf, rfl⟩ := jp_ix_some hq2
      rw [show sp_content (nI p) (nI f) G = ((jg_V G p f).getD 0, G) from by simp only [sp_content, hq, hq2]]
      refine jw_Mi.of (own := RX0) (by decide) rfl (Nat.le_of_ble_eq_true rfl) (fun _ _ _ => rfl) ?_
      intro E hE C hret
      subst hE
      show jw_J E 4 _ 0 [(0, .ref h), (1, .int (nI p)), (2, .int (nI f))] []
      refine jr_aload_n (pc := 0) C dX0_content_0 rfl ?_
      refine jr_iload_n (pc := 1) C dX0_content_1 rfl ?_
      refine jr_calli (pc := 2) C gw_X0_75 ok_X0_isPoint (mX_isPoint _ (by omega)) rfl (by decide) (by decide) rfl rfl dX0_content_2 rfl (Nat.le_of_ble_eq_true rfl) ?_
      rintro _ _ ⟨rfl, rfl⟩
      refine jr_if_eqB (tgt := 15) (pc := 5) C dX0_content_5 (by decide) (fun c_5 => ?_) (fun c_5 => ?_)
      · simp [hq] at c_5
      · refine jr_iload_n (pc := 8) C dX0_content_8 rfl ?_
        refine jr_calls (pc := 9) C gw_X0_48 ok_X0_isFile (mX_isFile _) rfl (by decide) (by decide) dX0_content_9 rfl (Nat.le_of_ble_eq_true rfl) ?_
        rintro _ _ ⟨rfl, rfl⟩
        refine jr_if_neB (tgt := 17) (pc := 12) C dX0_content_12 (by decide) (fun c_12 => ?_) (fun c_12 => ?_)
        · refine jr_aload_n (pc := 17) C dX0_content_17 rfl ?_
          refine jr_aload_n (pc := 18) C dX0_content_18 rfl ?_
          refine jx_g_o (pc := 19) C dX0_content_19 ?_
          refine jr_iload_n (pc := 22) C dX0_content_22 rfl ?_
          refine jx_l_o (pc := 23) C (by omega) dX0_content_23 ?_
          refine jr_iload_n (pc := 24) C dX0_content_24 rfl ?_
          refine jr_calli (pc := 25) C gw_X0_90 ok_X0_holder (mX_holder hr hp hf) rfl (by decide) (by decide) rfl rfl dX0_content_25 rfl (Nat.le_of_ble_eq_true rfl) ?_
          rintro _ _ ⟨⟨q0, hq0, rfl, he0, hv0⟩, rfl⟩
          have ho0 := xr_o hr (p := q0) (by omega)
          have hE0 := xr_E hr (p := q0) (by omega) hf he0
          refine jr_istore_n (pc := 28) C dX0_content_28 (by decide) rfl ?_
          refine jr_aload_n (pc := 29) C dX0_content_29 rfl ?_
          refine jx_g_pr (pc := 30) C dX0_content_30 ?_
          refine jr_iload_n (pc := 33) C dX0_content_33 rfl ?_
          refine jx_l_pr (pc := 34) C (by omega) dX0_content_34 ?_
          refine jr_iload_n (pc := 35) C dX0_content_35 rfl ?_
          refine jr_calls (pc := 36) C gw_X0_59 ok_X0_has (mX_has _ (by omega)) rfl (by decide) (by decide) dX0_content_36 rfl (Nat.le_of_ble_eq_true rfl) ?_
          rintro _ _ ⟨rfl, rfl⟩
          refine jr_if_eqB (tgt := 56) (pc := 39) C dX0_content_39 (by decide) (fun c_39 => ?_) (fun c_39 => ?_)
          · refine jr_iconst (pc := 56) (v := nI 0) C dX0_content_56 (by decide) ?_
            exact hret _ _ _ _ dX0_content_57 ⟨by rw [← hv0, ← hE0, jp_vl_gd, c_39]; rfl, xw_in hr⟩
          · refine jr_aload_n (pc := 42) C dX0_content_42 rfl ?_
            refine jx_g_ct (pc := 43) C dX0_content_43 ?_
            refine jr_bipush (pc := 46) (v := nI 16) C dX0_content_46 (by decide) ?_
            refine jr_iload_n (pc := 48) C dX0_content_48 rfl ?_
            refine jr_imulN (pc := 49) C dX0_content_49 ?_
            refine jr_iload_n (pc := 50) C dX0_content_50 rfl ?_
            refine jr_iaddN (pc := 51) C dX0_content_51 ?_
            refine jx_l_ct (pc := 52) C (by omega) dX0_content_52 ?_
            refine jr_goto (tgt := 57) (pc := 53) C dX0_content_53 (by decide) ?_
            exact hret _ _ _ _ dX0_content_57 ⟨by rw [← hv0, ← hE0, jp_vl_gd, c_39]; rfl, xw_in hr⟩
        · simp [hq2] at c_12
/-- liveThere -/
theorem mX_liveThere (hr : xr_R G lc o bs en pr ct dy pn tc tk lm) (a : Int32) : jw_Mi yX0_liveThere cX0_liveThere 2 (some .int) 1 D (tX cA) [.ref h, .int a] (wX h ad cA lc o bs en pr ct dy pn tc tk kp lm (jg_n G) (jg_td G)) (fun r w' => r = (sp_liveThere a G).1 ∧ xw_R h ad cA (sp_liveThere a G).2 w') := by
  have hn := xr_n hr
  cases hq : jp_ix a 16 with
  | none =>
    rw [show sp_liveThere a G = (-1, G) from by simp only [sp_liveThere, hq]]
    refine jw_Mi.of (own := RX0) (by decide) rfl (Nat.le_of_ble_eq_true rfl) (fun _ _ _ => rfl) ?_
    intro E hE C hret
    subst hE
    show jw_J E 2 _ 0 [(0, .ref h), (1, .int a)] []
    refine jr_iload_n (pc := 0) C dX0_liveThere_0 rfl ?_
    refine jr_calls (pc := 1) C gw_X0_48 ok_X0_isFile (mX_isFile _) rfl (by decide) (by decide) dX0_liveThere_1 rfl (Nat.le_of_ble_eq_true rfl) ?_
    rintro _ _ ⟨rfl, rfl⟩
    refine jr_if_eqB (tgt := 18) (pc := 4) C dX0_liveThere_4 (by decide) (fun c_4 => ?_) (fun c_4 => ?_)
    · refine jr_iconst (pc := 18) (v := (-1)) C dX0_liveThere_18 (by decide) ?_
      exact hret _ _ _ _ dX0_liveThere_19 ⟨rfl, xw_in hr⟩
    · simp [hq] at c_4
  | some f =>
    obtain ⟨hf, rfl⟩ := jp_ix_some hq
    rw [show sp_liveThere (nI f) G = (jp_b (jg_lv G f).isSome, G) from by simp only [sp_liveThere, hq]]
    have hL := xr_lv hr hf
    refine jw_Mi.of (own := RX0) (by decide) rfl (Nat.le_of_ble_eq_true rfl) (fun _ _ _ => rfl) ?_
    intro E hE C hret
    subst hE
    show jw_J E 2 _ 0 [(0, .ref h), (1, .int (nI f))] []
    refine jr_iload_n (pc := 0) C dX0_liveThere_0 rfl ?_
    refine jr_calls (pc := 1) C gw_X0_48 ok_X0_isFile (mX_isFile _) rfl (by decide) (by decide) dX0_liveThere_1 rfl (Nat.le_of_ble_eq_true rfl) ?_
    rintro _ _ ⟨rfl, rfl⟩
    refine jr_if_eqB (tgt := 18) (pc := 4) C dX0_liveThere_4 (by decide) (fun c_4 => ?_) (fun c_4 => ?_)
    · simp [hq] at c_4
    · refine jr_aload_n (pc := 7) C dX0_liveThere_7 rfl ?_
      refine jx_g_lm (pc := 8) C dX0_liveThere_8 ?_
      refine jr_iload_n (pc := 11) C dX0_liveThere_11 rfl ?_
      refine jr_ishr (pc := 12) C dX0_liveThere_12 ?_
      refine jr_iconst (pc := 13) (v := nI 1) C dX0_liveThere_13 (by decide) ?_
      refine jr_iand (pc := 14) C dX0_liveThere_14 ?_
      refine jr_goto (tgt := 19) (pc := 15) C dX0_liveThere_15 (by decide) ?_
      exact hret _ _ _ _ dX0_liveThere_19 ⟨by rw [show nI 1 = 1 from rfl, jp_has hf, ← hL, jp_vl_is], xw_in hr⟩
/-- live -/
theorem mX_live (hr : xr_R G lc o bs en pr ct dy pn tc tk lm) (a : Int32) : jw_Mi yX0_live cX0_live 2 (some .int) 1 D (tX cA) [.ref h, .int a] (wX h ad cA lc o bs en pr ct dy pn tc tk kp lm (jg_n G) (jg_td G)) (fun r w' => r = (sp_live a G).1 ∧ xw_R h ad cA (sp_live a G).2 w') := by
  have hn := xr_n hr
  cases hq : jp_ix a 16 with
  | none =>
    rw [show sp_live a G = (0, G) from by simp only [sp_live, hq]]
    refine jw_Mi.of (own := RX0) (by decide) rfl (Nat.le_of_ble_eq_true rfl) (fun _ _ _ => rfl) ?_
    intro E hE C hret
    subst hE
    show jw_J E 2 _ 0 [(0, .ref h), (1, .int a)] []
    refine jr_iload_n (pc := 0) C dX0_live_0 rfl ?_
    refine jr_calls (pc := 1) C gw_X0_48 ok_X0_isFile (mX_isFile _) rfl (by decide) (by decide) dX0_live_1 rfl (Nat.le_of_ble_eq_true rfl) ?_
    rintro _ _ ⟨rfl, rfl⟩
    refine jr_if_eqB (tgt := 27) (pc := 4) C dX0_live_4 (by decide) (fun c_4 => ?_) (fun c_4 => ?_)
    · refine jr_iconst (pc := 27) (v := nI 0) C dX0_live_27 (by decide) ?_
      exact hret _ _ _ _ dX0_live_28 ⟨rfl, xw_in hr⟩
    · simp [hq] at c_4
  | some f =>
    obtain ⟨hf, rfl⟩ := jp_ix_some hq
    rw [show sp_live (nI f) G = ((jg_lv G f).getD 0, G) from by simp only [sp_live, hq]]
    have hL := xr_lv hr hf
    refine jw_Mi.of (own := RX0) (by decide) rfl (Nat.le_of_ble_eq_true rfl) (fun _ _ _ => rfl) ?_
    intro E hE C hret
    subst hE
    show jw_J E 2 _ 0 [(0, .ref h), (1, .int (nI f))] []
    refine jr_iload_n (pc := 0) C dX0_live_0 rfl ?_
    refine jr_calls (pc := 1) C gw_X0_48 ok_X0_isFile (mX_isFile _) rfl (by decide) (by decide) dX0_live_1 rfl (Nat.le_of_ble_eq_true rfl) ?_
    rintro _ _ ⟨rfl, rfl⟩
    refine jr_if_eqB (tgt := 27) (pc := 4) C dX0_live_4 (by decide) (fun c_4 => ?_) (fun c_4 => ?_)
    · simp [hq] at c_4
    · refine jr_aload_n (pc := 7) C dX0_live_7 rfl ?_
      refine jx_g_lm (pc := 8) C dX0_live_8 ?_
      refine jr_iload_n (pc := 11) C dX0_live_11 rfl ?_
      refine jr_calls (pc := 12) C gw_X0_59 ok_X0_has (mX_has _ (by omega)) rfl (by decide) (by decide) dX0_live_12 rfl (Nat.le_of_ble_eq_true rfl) ?_
      rintro _ _ ⟨rfl, rfl⟩
      refine jr_if_eqB (tgt := 27) (pc := 15) C dX0_live_15 (by decide) (fun c_15 => ?_) (fun c_15 => ?_)
      · refine jr_iconst (pc := 27) (v := nI 0) C dX0_live_27 (by decide) ?_
        exact hret _ _ _ _ dX0_live_28 ⟨by rw [← hL, jp_vl_gd, c_15]; rfl, xw_in hr⟩
      · refine jr_aload_n (pc := 18) C dX0_live_18 rfl ?_
        refine jx_g_lc (pc := 19) C dX0_live_19 ?_
        refine jr_iload_n (pc := 22) C dX0_live_22 rfl ?_
        refine jx_l_lc (pc := 23) C (by omega) dX0_live_23 ?_
        refine jr_goto (tgt := 28) (pc := 24) C dX0_live_24 (by decide) ?_
        exact hret _ _ _ _ dX0_live_28 ⟨by rw [← hL, jp_vl_gd, c_15]; rfl, xw_in hr⟩
end
end
section
/-! the component: public methods with loops -/
set_option maxRecDepth 100000
section
variable {D : va_G} {E : je_E} {h : Nat} {ad : Nat → Nat} {cA : Nat → ClassId} {tys : List (ClassId × FieldType)} {w : va_W} {lc : Nat → Int32} {o : Nat → Nat} {bs : Nat → Option Nat} {en pr ct : Nat → Int32} {dy : Nat → Nat} {pn : Nat → Bool} {tc : Nat → Int32} {tk kp : Nat → Bool} {lm : Int32} {n td : Nat} {G : jg_G}
theorem jp_cnt_t {P : Nat → Bool} {a k : Nat} (h : P (a + k) = true) : jp_cnt P a (k + 1) = jp_cnt P a k + 1 := by
  show jp_cnt P a k + (if P (a + k) = true then 1 else 0) = _
  rw [if_pos h]
theorem jp_cnt_f {P : Nat → Bool} {a k : Nat} (h : P (a + k) = false) : jp_cnt P a (k + 1) = jp_cnt P a k := by
  show jp_cnt P a k + (if P (a + k) = true then 1 else 0) = _
  rw [if_neg (by rw [h]; decide)]
  rfl
theorem jp_bN (b : Bool) : jp_b b = nI (if b = true then 1 else 0) := by cases b <;> decide
theorem sp_rw_t {lv : Nat → Option Int32} {f g : Nat} {c s : Int32} (hfg : f ≤ g) (h : (lv g).isSome = true) : va_up (sp_rw lv f c s g) g (some (c + nI g * s)) = sp_rw lv f c s (g + 1) := by
  funext j
  unfold va_up sp_rw
  by_cases e : j = g
  · rw [if_pos e, e, if_pos ⟨hfg, Nat.lt_succ_self _, h⟩]
  · rw [if_neg e]
    by_cases c1 : f ≤ j ∧ j < g ∧ (lv j).isSome = true
    · rw [if_pos c1, if_pos ⟨c1.1, by omega, c1.2.2⟩]
    · rw [if_neg c1, if_neg (fun q => c1 ⟨q.1, by omega, q.2.2⟩)]
theorem sp_rw_f {lv : Nat → Option Int32} {f g : Nat} {c s : Int32} (h : (lv g).isSome = false) : sp_rw lv f c s g = sp_rw lv f c s (g + 1) := by
  funext j
  unfold sp_rw
  by_cases c1 : f ≤ j ∧ j < g ∧ (lv j).isSome = true
  · rw [if_pos c1, if_pos ⟨c1.1, by omega, c1.2.2⟩]
  · rw [if_neg c1, if_neg (fun q => c1 ⟨q.1, Nat.lt_of_le_of_ne (by omega) (fun z => by rw [z, h] at q; cases q.2.2), q.2.2⟩)]
theorem sp_rw_at {lv : Nat → Option Int32} {f g : Nat} {c s : Int32} : sp_rw lv f c s g g = lv g := by
  unfold sp_rw
  rw [if_neg (fun q => Nat.lt_irrefl _ q.2.1)]
theorem sp_rw_0 {lv : Nat → Option Int32} {f : Nat} {c s : Int32} : sp_rw lv f c s f = lv := by
  funext j
  unfold sp_rw
  rw [if_neg (fun q => absurd q.2.1 (Nat.not_lt.mpr q.1))]
theorem sp_rs_0 {lv v : Nat → Option Int32} : sp_rs lv v 0 = lv := by
  funext j
  unfold sp_rs
  rw [if_neg (Nat.not_lt_zero _)]
theorem sp_rs_at {lv v : Nat → Option Int32} {g : Nat} : sp_rs lv v g g = lv g := by
  unfold sp_rs
  rw [if_neg (Nat.lt_irrefl _)]
theorem sp_rs_t {lv v : Nat → Option Int32} {g : Nat} : va_up (sp_rs lv v g) g (v g) = sp_rs lv v (g + 1) := by
  funext j
  unfold va_up sp_rs
  by_cases e : j = g
  · rw [if_pos e, e, if_pos (Nat.lt_succ_self _)]
  · rw [if_neg e]
    by_cases c1 : j < g
    · rw [if_pos c1, if_pos (by omega)]
    · rw [if_neg c1, if_neg (by omega)]
theorem mX_rewrite_loop (C : jw_C E cX0_rewrite 6 RX0 (tX cA) 2) {f : Nat} {c s : Int32} (hf : f < 16) (hret : ∀ pc lv v w', decode cX0_rewrite pc = .ok (.ireturn, 1) → (v = nI (jp_cnt (fun g => (jg_lv G g).isSome) f (16 - f)) ∧ xw_R h ad cA (jg_sl G (sp_rw (jg_lv G) f c s 16)) w') → jw_J E 6 w' pc lv [.int v]) : ∀ (k j : Nat), f + j + k = 16 → ∀ (lc : Nat → Int32) (o : Nat → Nat) (bs : Nat → Option Nat) (en pr ct : Nat → Int32) (dy : Nat → Nat) (pn : Nat → Bool) (tc : Nat → Int32) (tk : Nat → Bool) (lm : Int32), xr_R (jg_sl G (sp_rw (jg_lv G) f c s (f + j))) lc o bs en pr ct dy pn tc tk lm → jw_J E 6 (wX h ad cA lc o bs en pr ct dy pn tc tk kp lm (jg_n G) (jg_td G)) 15 [(0, .ref h), (1, .int (nI f)), (2, .int c), (3, .int s), (4, .int (nI (jp_cnt (fun g => (jg_lv G g).isSome) f j))), (5, .int (nI (f + j)))] [] := by
  intro k
  induction k with
  | zero =>
    intro j hj lc o bs en pr ct dy pn tc tk lm hr
    have hcl := jp_cnt_le (fun g => (jg_lv G g).isSome) f j
    refine jr_iload (pc := 15) C dX0_rewrite_15 rfl ?_
    refine jr_bipush (pc := 17) (v := nI 16) C dX0_rewrite_17 (by decide) ?_
    refine jr_icmp_geN (tgt := 56) (pc := 19) C dX0_rewrite_19 (by decide) (by omega) (by omega) (fun c_19 => ?_) (fun c_19 => ?_)
    · refine jr_iload (pc := 56) C dX0_rewrite_56 rfl ?_
      exact hret _ _ _ _ dX0_rewrite_58 ⟨by rw [show 16 - f = j by omega], by rw [show 16 = f + j by omega]; exact xw_in hr⟩
    · exfalso; omega
  | succ k ih =>
    intro j hj lc o bs en pr ct dy pn tc tk lm hr
    have hcl := jp_cnt_le (fun g => (jg_lv G g).isSome) f j
    have hL := xr_lv hr (f := f + j) (by omega)
    rw [show jg_lv (jg_sl G (sp_rw (jg_lv G) f c s (f + j))) (f + j) = jg_lv G (f + j) from sp_rw_at] at hL
    have hi : (jg_lv G (f + j)).isSome = bt lm (f + j) := by rw [← hL, jp_vl_is]
    refine jr_iload (pc := 15) C dX0_rewrite_15 rfl ?_
    refine jr_bipush (pc := 17) (v := nI 16) C dX0_rewrite_17 (by decide) ?_
    refine jr_icmp_geN (tgt := 56) (pc := 19) C dX0_rewrite_19 (by decide) (by omega) (by omega) (fun c_19 => ?_) (fun c_19 => ?_)
    · exfalso; omega
    · refine jr_aload_n (pc := 22) C dX0_rewrite_22 rfl ?_
      refine jx_g_lm (pc := 23) C dX0_rewrite_23 ?_
      refine jr_iload (pc := 26) C dX0_rewrite_26 rfl ?_
      refine jr_calls (pc := 28) C gw_X0_59 ok_X0_has (mX_has _ (by omega)) rfl (by decide) (by decide) dX0_rewrite_28 rfl (Nat.le_of_ble_eq_true rfl) ?_
      rintro _ _ ⟨rfl, rfl⟩
      refine jr_if_eqB (tgt := 50) (pc := 31) C dX0_rewrite_31 (by decide) (fun c_31 => ?_) (fun c_31 => ?_)
      · refine jr_inc (pc := 50) C dX0_rewrite_50 rfl (by decide) rfl ?_
        refine jr_goto (tgt := 15) (pc := 53) C dX0_rewrite_53 (by decide) ?_
        first
          | (rw [← jp_cnt_t (P := fun g => (jg_lv G g).isSome) hi]; exact ih (j + 1) (by omega) _ _ _ _ _ _ _ _ _ _ _ hr1)
          | (rw [c_31] at hi; rw [← jp_cnt_f (P := fun g => (jg_lv G g).isSome) hi]; exact ih (j + 1) (by omega) _ _ _ _ _ _ _ _ _ _ _ (by rw [show f + (j + 1) = f + j + 1 from rfl, ← sp_rw_f hi]; exact hr))
      · refine jr_aload_n (pc := 34) C dX0_rewrite_34 rfl ?_
        refine jr_iload (pc := 35) C dX0_rewrite_35 rfl ?_
        refine jr_iconst (pc := 37) (v := jp_b true) C dX0_rewrite_37 (by decide) ?_
        refine jr_iload_n (pc := 38) C dX0_rewrite_38 rfl ?_
        refine jr_iload (pc := 39) C dX0_rewrite_39 rfl ?_
        refine jr_iload_n (pc := 41) C dX0_rewrite_41 rfl ?_
        refine jr_imul (pc := 42) C dX0_rewrite_42 ?_
        refine jr_iadd (pc := 43) C dX0_rewrite_43 ?_
        refine jr_callv (pc := 44) C gw_X0_55 ok_X0_setLive (mX_setLive hr (by omega) _ _) rfl (by decide) (by decide) rfl rfl dX0_rewrite_44 rfl (Nat.le_of_ble_eq_true rfl) ?_
        rintro _ ⟨lc1, o1, bs1, en1, pr1, ct1, dy1, pn1, tc1, tk1, lm1, rfl, hr1⟩
        rw [c_31] at hi
        rw [show jg_sl (jg_sl G (sp_rw (jg_lv G) f c s (f + j))) (va_up (jg_lv (jg_sl G (sp_rw (jg_lv G) f c s (f + j)))) (f + j) (jp_vl true (c + nI (f + j) * s))) = jg_sl G (sp_rw (jg_lv G) f c s (f + (j + 1))) from by rw [show f + (j + 1) = f + j + 1 from rfl, ← sp_rw_t (Nat.le_add_right f j) hi]; rfl] at hr1
        refine jr_inc (pc := 47) C dX0_rewrite_47 rfl (by decide) rfl ?_
        refine jr_inc (pc := 50) C dX0_rewrite_50 rfl (by decide) rfl ?_
        refine jr_goto (tgt := 15) (pc := 53) C dX0_rewrite_53 (by decide) ?_
        first
          | (rw [← jp_cnt_t (P := fun g => (jg_lv G g).isSome) hi]; exact ih (j + 1) (by omega) _ _ _ _ _ _ _ _ _ _ _ hr1)
          | (rw [c_31] at hi; rw [← jp_cnt_f (P := fun g => (jg_lv G g).isSome) hi]; exact ih (j + 1) (by omega) _ _ _ _ _ _ _ _ _ _ _ (by rw [show f + (j + 1) = f + j + 1 from rfl, ← sp_rw_f hi]; exact hr))
/-- rewrite -/
theorem mX_rewrite (hr : xr_R G lc o bs en pr ct dy pn tc tk lm) (a : Int32) (c : Int32) (s : Int32) : jw_Mi yX0_rewrite cX0_rewrite 6 (some .int) 2 D (tX cA) [.ref h, .int a, .int c, .int s] (wX h ad cA lc o bs en pr ct dy pn tc tk kp lm (jg_n G) (jg_td G)) (fun r w' => r = (sp_rewrite a c s G).1 ∧ xw_R h ad cA (sp_rewrite a c s G).2 w') := by
  have hn := xr_n hr
  cases hq : jp_ix a 16 with
  | none =>
    rw [show sp_rewrite a c s G = (-1, G) from by simp only [sp_rewrite, hq]]
    refine jw_Mi.of (own := RX0) (by decide) rfl (Nat.le_of_ble_eq_true rfl) (fun _ _ _ => rfl) ?_
    intro E hE C hret
    subst hE
    show jw_J E 6 _ 0 [(0, .ref h), (1, .int a), (2, .int c), (3, .int s)] []
    refine jr_iload_n (pc := 0) C dX0_rewrite_0 rfl ?_
    refine jr_calls (pc := 1) C gw_X0_48 ok_X0_isFile (mX_isFile _) rfl (by decide) (by decide) dX0_rewrite_1 rfl (Nat.le_of_ble_eq_true rfl) ?_
    rintro _ _ ⟨rfl, rfl⟩
    refine jr_if_neB (tgt := 9) (pc := 4) C dX0_rewrite_4 (by decide) (fun c_4 => ?_) (fun c_4 => ?_)
    · simp [hq] at c_4
    · refine jr_iconst (pc := 7) (v := (-1)) C dX0_rewrite_7 (by decide) ?_
      exact hret _ _ _ _ dX0_rewrite_8 ⟨rfl, xw_in hr⟩
  | some f =>
    obtain ⟨hf, rfl⟩ := jp_ix_some hq
    rw [show sp_rewrite (nI f) c s G = (nI (jp_cnt (fun g => (jg_lv G g).isSome) f (16 - f)), jg_sl G (sp_rw (jg_lv G) f c s 16)) from by simp only [sp_rewrite, hq]]
    refine jw_Mi.of (own := RX0) (by decide) rfl (Nat.le_of_ble_eq_true rfl) (fun _ _ _ => rfl) ?_
    intro E hE C hret
    subst hE
    show jw_J E 6 _ 0 [(0, .ref h), (1, .int (nI f)), (2, .int c), (3, .int s)] []
    refine jr_iload_n (pc := 0) C dX0_rewrite_0 rfl ?_
    refine jr_calls (pc := 1) C gw_X0_48 ok_X0_isFile (mX_isFile _) rfl (by decide) (by decide) dX0_rewrite_1 rfl (Nat.le_of_ble_eq_true rfl) ?_
    rintro _ _ ⟨rfl, rfl⟩
    refine jr_if_neB (tgt := 9) (pc := 4) C dX0_rewrite_4 (by decide) (fun c_4 => ?_) (fun c_4 => ?_)
    · refine jr_iconst (pc := 9) (v := nI 0) C dX0_rewrite_9 (by decide) ?_
      refine jr_istore (pc := 10) C dX0_rewrite_10 (by decide) rfl ?_
      refine jr_iload_n (pc := 12) C dX0_rewrite_12 rfl ?_
      refine jr_istore (pc := 13) C dX0_rewrite_13 (by decide) rfl ?_
      exact mX_rewrite_loop C hf hret (16 - f) 0 (by omega) _ _ _ _ _ _ _ _ _ _ _ (by rw [show f + 0 = f from rfl, sp_rw_0]; exact hr)
    · simp [hq] at c_4
theorem mX_restore_loop (C : jw_C E cX0_restore 4 RX0 (tX cA) 4) {p : Nat} (hp : p < jg_n G) (hret : ∀ pc lv v w', decode cX0_restore pc = .ok (.ireturn, 1) → (v = nI (jp_cnt (fun f => jp_ne (jg_V G p f) (jg_lv G f)) 0 16) ∧ xw_R h ad cA (jg_sl G (sp_rs (jg_lv G) (jg_V G p) 16)) w') → jw_J E 4 w' pc lv [.int v]) : ∀ (k g : Nat), g + k = 16 → ∀ (lc : Nat → Int32) (o : Nat → Nat) (bs : Nat → Option Nat) (en pr ct : Nat → Int32) (dy : Nat → Nat) (pn : Nat → Bool) (tc : Nat → Int32) (tk : Nat → Bool) (lm : Int32), xr_R (jg_sl G (sp_rs (jg_lv G) (jg_V G p) g)) lc o bs en pr ct dy pn tc tk lm → jw_J E 4 (wX h ad cA lc o bs en pr ct dy pn tc tk kp lm (jg_n G) (jg_td G)) 14 [(0, .ref h), (1, .int (nI p)), (2, .int (nI (jp_cnt (fun f => jp_ne (jg_V G p f) (jg_lv G f)) 0 g))), (3, .int (nI g))] [] := by
  intro k
  induction k with
  | zero =>
    intro g hg lc o bs en pr ct dy pn tc tk lm hr
    have hcl := jp_cnt_le (fun f => jp_ne (jg_V G p f) (jg_lv G f)) 0 g
    refine jr_iload_n (pc := 14) C dX0_restore_14 rfl ?_
    refine jr_bipush (pc := 15) (v := nI 16) C dX0_restore_15 (by decide) ?_
    refine jr_icmp_geN (tgt := 40) (pc := 17) C dX0_restore_17 (by decide) (by omega) (by omega) (fun c_17 => ?_) (fun c_17 => ?_)
    · refine jr_iload_n (pc := 40) C dX0_restore_40 rfl ?_
      exact hret _ _ _ _ dX0_restore_41 ⟨by rw [show 16 = g by omega], by rw [show 16 = g by omega]; exact xw_in hr⟩
    · exfalso; omega
  | succ k ih =>
    intro g hg lc o bs en pr ct dy pn tc tk lm hr
    have hn := xr_n hr
    have hn : jg_n G ≤ 14 := hn
    have hcl := jp_cnt_le (fun f => jp_ne (jg_V G p f) (jg_lv G f)) 0 g
    refine jr_iload_n (pc := 14) C dX0_restore_14 rfl ?_
    refine jr_bipush (pc := 15) (v := nI 16) C dX0_restore_15 (by decide) ?_
    refine jr_icmp_geN (tgt := 40) (pc := 17) C dX0_restore_17 (by decide) (by omega) (by omega) (fun c_17 => ?_) (fun c_17 => ?_)
    · exfalso; omega
    · refine jr_iload_n (pc := 20) C dX0_restore_20 rfl ?_
      refine jr_aload_n (pc := 21) C dX0_restore_21 rfl ?_
      refine jr_aload_n (pc := 22) C dX0_restore_22 rfl ?_
      refine jx_g_o (pc := 23) C dX0_restore_23 ?_
      refine jr_iload_n (pc := 26) C dX0_restore_26 rfl ?_
      refine jx_l_o (pc := 27) C (by omega) dX0_restore_27 ?_
      refine jr_iload_n (pc := 28) C dX0_restore_28 rfl ?_
      refine jr_calli (pc := 29) C gw_X0_78 ok_X0_bring (mX_bring hr hp (by omega)) rfl (by decide) (by decide) rfl rfl dX0_restore_29 rfl (Nat.le_of_ble_eq_true rfl) ?_
      rintro _ _ ⟨rfl, lc1, o1, bs1, en1, pr1, ct1, dy1, pn1, tc1, tk1, lm1, rfl, hr1⟩
      rw [show jg_lv (jg_sl G (sp_rs (jg_lv G) (jg_V G p) g)) g = jg_lv G g from sp_rs_at]
      rw [show jg_sl (jg_sl G (sp_rs (jg_lv G) (jg_V G p) g)) (va_up (jg_lv (jg_sl G (sp_rs (jg_lv G) (jg_V G p) g))) g (jg_V (jg_sl G (sp_rs (jg_lv G) (jg_V G p) g)) p g)) = jg_sl G (sp_rs (jg_lv G) (jg_V G p) (g + 1)) from by rw [← sp_rs_t]] at hr1
      refine jr_top (jp_bN _) ?_
      refine jr_iaddN (pc := 32) C dX0_restore_32 ?_
      refine jr_istore_n (pc := 33) C dX0_restore_33 (by decide) rfl ?_
      refine jr_inc (pc := 34) C dX0_restore_34 rfl (by decide) rfl ?_
      refine jr_goto (tgt := 14) (pc := 37) C dX0_restore_37 (by decide) ?_
      rw [show jp_cnt (fun f => jp_ne (jg_V G p f) (jg_lv G f)) 0 g + (if jp_ne (jg_V (jg_sl G (sp_rs (jg_lv G) (jg_V G p) g)) p g) (jg_lv G g) = true then 1 else 0) = jp_cnt (fun f => jp_ne (jg_V G p f) (jg_lv G f)) 0 (g + 1) from by show _ = jp_cnt (fun f => jp_ne (jg_V G p f) (jg_lv G f)) 0 g + (if jp_ne (jg_V G p (0 + g)) (jg_lv G (0 + g)) = true then 1 else 0); rw [Nat.zero_add]]
      exact ih (g + 1) (by omega) _ _ _ _ _ _ _ _ _ _ _ hr1
/-- restore -/
theorem mX_restore (hr : xr_R G lc o bs en pr ct dy pn tc tk lm) (a : Int32) : jw_Mi yX0_restore cX0_restore 4 (some .int) 4 D (tX cA) [.ref h, .int a] (wX h ad cA lc o bs en pr ct dy pn tc tk kp lm (jg_n G) (jg_td G)) (fun r w' => r = (sp_restore a G).1 ∧ xw_R h ad cA (sp_restore a G).2 w') := by
  have hn := xr_n hr
  cases hq : jp_ix a (jg_n G) with
  | none =>
    rw [show sp_restore a G = (-1, G) from by simp only [sp_restore, hq]]
    refine jw_Mi.of (own := RX0) (by decide) rfl (Nat.le_of_ble_eq_true rfl) (fun _ _ _ => rfl) ?_
    intro E hE C hret
    subst hE
    show jw_J E 4 _ 0 [(0, .ref h), (1, .int a)] []
    refine jr_aload_n (pc := 0) C dX0_restore_0 rfl ?_
    refine jr_iload_n (pc := 1) C dX0_restore_1 rfl ?_
    refine jr_calli (pc := 2) C gw_X0_75 ok_X0_isPoint (mX_isPoint _ (by omega)) rfl (by decide) (by decide) rfl rfl dX0_restore_2 rfl (Nat.le_of_ble_eq_true rfl) ?_
    rintro _ _ ⟨rfl, rfl⟩
    refine jr_if_neB (tgt := 10) (pc := 5) C dX0_restore_5 (by decide) (fun c_5 => ?_) (fun c_5 => ?_)
    · simp [hq] at c_5
    · refine jr_iconst (pc := 8) (v := (-1)) C dX0_restore_8 (by decide) ?_
      exact hret _ _ _ _ dX0_restore_9 ⟨rfl, xw_in hr⟩
  | some p =>
    obtain ⟨hp, rfl⟩ := jp_ix_some hq
    rw [show sp_restore (nI p) G = (nI (jp_cnt (fun f => jp_ne (jg_V G p f) (jg_lv G f)) 0 16), jg_sl G (sp_rs (jg_lv G) (jg_V G p) 16)) from by simp only [sp_restore, hq]]
    refine jw_Mi.of (own := RX0) (by decide) rfl (Nat.le_of_ble_eq_true rfl) (fun _ _ _ => rfl) ?_
    intro E hE C hret
    subst hE
    show jw_J E 4 _ 0 [(0, .ref h), (1, .int (nI p))] []
    refine jr_aload_n (pc := 0) C dX0_restore_0 rfl ?_
    refine jr_iload_n (pc := 1) C dX0_restore_1 rfl ?_
    refine jr_calli (pc := 2) C gw_X0_75 ok_X0_isPoint (mX_isPoint _ (by omega)) rfl (by decide) (by decide) rfl rfl dX0_restore_2 rfl (Nat.le_of_ble_eq_true rfl) ?_
    rintro _ _ ⟨rfl, rfl⟩
    refine jr_if_neB (tgt := 10) (pc := 5) C dX0_restore_5 (by decide) (fun c_5 => ?_) (fun c_5 => ?_)
    · refine jr_iconst (pc := 10) (v := nI 0) C dX0_restore_10 (by decide) ?_
      refine jr_istore_n (pc := 11) C dX0_restore_11 (by decide) rfl ?_
      refine jr_iconst (pc := 12) (v := nI 0) C dX0_restore_12 (by decide) ?_
      refine jr_istore_n (pc := 13) C dX0_restore_13 (by decide) rfl ?_
      exact mX_restore_loop C hp hret 16 0 (by omega) _ _ _ _ _ _ _ _ _ _ _ (by rw [sp_rs_0]; exact hr)
    · simp [hq] at c_5
theorem mX_differing_loop (C : jw_C E cX0_differing 5 RX0 (tX cA) 3) (hr : xr_R G lc o bs en pr ct dy pn tc tk lm) {p q : Nat} (hp : p < jg_n G) (hq : q < jg_n G) (hret : ∀ pc lv v w', decode cX0_differing pc = .ok (.ireturn, 1) → (v = nI (jp_cnt (fun f => jp_ne (jg_V G p f) (jg_V G q f)) 0 16) ∧ xw_R h ad cA G w') → jw_J E 5 w' pc lv [.int v]) : ∀ (k g : Nat), g + k = 16 → jw_J E 5 (wX h ad cA lc o bs en pr ct dy pn tc tk kp lm (jg_n G) (jg_td G)) 23 [(0, .ref h), (1, .int (nI p)), (2, .int (nI q)), (3, .int (nI (jp_cnt (fun f => jp_ne (jg_V G p f) (jg_V G q f)) 0 g))), (4, .int (nI g))] [] := by
  intro k
  have hn := xr_n hr
  induction k with
  | zero =>
    intro g hg
    have hcl := jp_cnt_le (fun f => jp_ne (jg_V G p f) (jg_V G q f)) 0 g
    refine jr_iload (pc := 23) C dX0_differing_23 rfl ?_
    refine jr_bipush (pc := 25) (v := nI 16) C dX0_differing_25 (by decide) ?_
    refine jr_icmp_geN (tgt := 60) (pc := 27) C dX0_differing_27 (by decide) (by omega) (by omega) (fun c_27 => ?_) (fun c_27 => ?_)
    · refine jr_iload_n (pc := 60) C dX0_differing_60 rfl ?_
      exact hret _ _ _ _ dX0_differing_61 ⟨by rw [show 16 = g by omega], xw_in hr⟩
    · exfalso; omega
  | succ k ih =>
    intro g hg
    have hcl := jp_cnt_le (fun f => jp_ne (jg_V G p f) (jg_V G q f)) 0 g
    refine jr_iload (pc := 23) C dX0_differing_23 rfl ?_
    refine jr_bipush (pc := 25) (v := nI 16) C dX0_differing_25 (by decide) ?_
    refine jr_icmp_geN (tgt := 60) (pc := 27) C dX0_differing_27 (by decide) (by omega) (by omega) (fun c_27 => ?_) (fun c_27 => ?_)
    · exfalso; omega
    · refine jr_aload_n (pc := 30) C dX0_differing_30 rfl ?_
      refine jr_aload_n (pc := 31) C dX0_differing_31 rfl ?_
      refine jx_g_o (pc := 32) C dX0_differing_32 ?_
      refine jr_iload_n (pc := 35) C dX0_differing_35 rfl ?_
      refine jx_l_o (pc := 36) C (by omega) dX0_differing_36 ?_
      refine jr_aload_n (pc := 37) C dX0_differing_37 rfl ?_
      refine jx_g_o (pc := 38) C dX0_differing_38 ?_
      refine jr_iload_n (pc := 41) C dX0_differing_41 rfl ?_
      refine jx_l_o (pc := 42) C (by omega) dX0_differing_42 ?_
      refine jr_iload (pc := 43) C dX0_differing_43 rfl ?_
      refine jr_calli (pc := 45) C gw_X0_93 ok_X0_differs (mX_differs hr hp hq (by omega)) rfl (by decide) (by decide) rfl rfl dX0_differing_45 rfl (Nat.le_of_ble_eq_true rfl) ?_
      rintro _ _ ⟨rfl, rfl⟩
      refine jr_if_eqB (tgt := 54) (pc := 48) C dX0_differing_48 (by decide) (fun c_48 => ?_) (fun c_48 => ?_)
      · refine jr_inc (pc := 54) C dX0_differing_54 rfl (by decide) rfl ?_
        refine jr_goto (tgt := 23) (pc := 57) C dX0_differing_57 (by decide) ?_
        first
          | (rw [← jp_cnt_t (P := (fun f => jp_ne (jg_V G p f) (jg_V G q f))) (a := 0) (k := g) (by rw [Nat.zero_add]; exact c_48)]; exact ih (g + 1) (by omega))
          | (rw [← jp_cnt_f (P := (fun f => jp_ne (jg_V G p f) (jg_V G q f))) (a := 0) (k := g) (by rw [Nat.zero_add]; exact c_48)]; exact ih (g + 1) (by omega))
      · refine jr_inc (pc := 51) C dX0_differing_51 rfl (by decide) rfl ?_
        refine jr_inc (pc := 54) C dX0_differing_54 rfl (by decide) rfl ?_
        refine jr_goto (tgt := 23) (pc := 57) C dX0_differing_57 (by decide) ?_
        first
          | (rw [← jp_cnt_t (P := (fun f => jp_ne (jg_V G p f) (jg_V G q f))) (a := 0) (k := g) (by rw [Nat.zero_add]; exact c_48)]; exact ih (g + 1) (by omega))
          | (rw [← jp_cnt_f (P := (fun f => jp_ne (jg_V G p f) (jg_V G q f))) (a := 0) (k := g) (by rw [Nat.zero_add]; exact c_48)]; exact ih (g + 1) (by omega))
/-- differing -/
theorem mX_differing (hr : xr_R G lc o bs en pr ct dy pn tc tk lm) (a : Int32) (b : Int32) : jw_Mi yX0_differing cX0_differing 5 (some .int) 3 D (tX cA) [.ref h, .int a, .int b] (wX h ad cA lc o bs en pr ct dy pn tc tk kp lm (jg_n G) (jg_td G)) (fun r w' => r = (sp_differing a b G).1 ∧ xw_R h ad cA (sp_differing a b G).2 w') := by
  have hn := xr_n hr
  cases hq : jp_ix a (jg_n G) with
  | none =>
    rw [show sp_differing a b G = (-1, G) from by simp only [sp_differing, hq]]
    refine jw_Mi.of (own := RX0) (by decide) rfl (Nat.le_of_ble_eq_true rfl) (fun _ _ _ => rfl) ?_
    intro E hE C hret
    subst hE
    show jw_J E 5 _ 0 [(0, .ref h), (1, .int a), (2, .int b)] []
    refine jr_aload_n (pc := 0) C dX0_differing_0 rfl ?_
    refine jr_iload_n (pc := 1) C dX0_differing_1 rfl ?_
    refine jr_calli (pc := 2) C gw_X0_75 ok_X0_isPoint (mX_isPoint _ (by omega)) rfl (by decide) (by decide) rfl rfl dX0_differing_2 rfl (Nat.le_of_ble_eq_true rfl) ?_
    rintro _ _ ⟨rfl, rfl⟩
    refine jr_if_eqB (tgt := 16) (pc := 5) C dX0_differing_5 (by decide) (fun c_5 => ?_) (fun c_5 => ?_)
    · refine jr_iconst (pc := 16) (v := (-1)) C dX0_differing_16 (by decide) ?_
      exact hret _ _ _ _ dX0_differing_17 ⟨rfl, xw_in hr⟩
    · simp [hq] at c_5
  | some p =>
    obtain ⟨hp, rfl⟩ := jp_ix_some hq
    cases hq2 : jp_ix b (jg_n G) with
    | none =>
      rw [show sp_differing (nI p) b G = (-1, G) from by simp only [sp_differing, hq, hq2]]
      refine jw_Mi.of (own := RX0) (by decide) rfl (Nat.le_of_ble_eq_true rfl) (fun _ _ _ => rfl) ?_
      intro E hE C hret
      subst hE
      show jw_J E 5 _ 0 [(0, .ref h), (1, .int (nI p)), (2, .int b)] []
      refine jr_aload_n (pc := 0) C dX0_differing_0 rfl ?_
      refine jr_iload_n (pc := 1) C dX0_differing_1 rfl ?_
      refine jr_calli (pc := 2) C gw_X0_75 ok_X0_isPoint (mX_isPoint _ (by omega)) rfl (by decide) (by decide) rfl rfl dX0_differing_2 rfl (Nat.le_of_ble_eq_true rfl) ?_
      rintro _ _ ⟨rfl, rfl⟩
      refine jr_if_eqB (tgt := 16) (pc := 5) C dX0_differing_5 (by decide) (fun c_5 => ?_) (fun c_5 => ?_)
      · simp [hq] at c_5
      · refine jr_aload_n (pc := 8) C dX0_differing_8 rfl ?_
        refine jr_iload_n (pc := 9) C dX0_differing_9 rfl ?_
        refine jr_calli (pc := 10) C gw_X0_75 ok_X0_isPoint (mX_isPoint _ (by omega)) rfl (by decide) (by decide) rfl rfl dX0_differing_10 rfl (Nat.le_of_ble_eq_true rfl) ?_
        rintro _ _ ⟨rfl, rfl⟩
        refine jr_if_neB (tgt := 18) (pc := 13) C dX0_differing_13 (by decide) (fun c_13 => ?_) (fun c_13 => ?_)
        · simp [hq2] at c_13
        · refine jr_iconst (pc := 16) (v := (-1)) C dX0_differing_16 (by decide) ?_
          exact hret _ _ _ _ dX0_differing_17 ⟨rfl, xw_in hr⟩
    | some q =>
      obtain ⟨hq3, rfl⟩ := jp_ix_some hq2
      rw [show sp_differing (nI p) (nI q) G = (nI (jp_cnt (fun f => jp_ne (jg_V G p f) (jg_V G q f)) 0 16), G) from by simp only [sp_differing, hq, hq2]]
      refine jw_Mi.of (own := RX0) (by decide) rfl (Nat.le_of_ble_eq_true rfl) (fun _ _ _ => rfl) ?_
      intro E hE C hret
      subst hE
      show jw_J E 5 _ 0 [(0, .ref h), (1, .int (nI p)), (2, .int (nI q))] []
      refine jr_aload_n (pc := 0) C dX0_differing_0 rfl ?_
      refine jr_iload_n (pc := 1) C dX0_differing_1 rfl ?_
      refine jr_calli (pc := 2) C gw_X0_75 ok_X0_isPoint (mX_isPoint _ (by omega)) rfl (by decide) (by decide) rfl rfl dX0_differing_2 rfl (Nat.le_of_ble_eq_true rfl) ?_
      rintro _ _ ⟨rfl, rfl⟩
      refine jr_if_eqB (tgt := 16) (pc := 5) C dX0_differing_5 (by decide) (fun c_5 => ?_) (fun c_5 => ?_)
      · simp [hq] at c_5
      · refine jr_aload_n (pc := 8) C dX0_differing_8 rfl ?_
        refine jr_iload_n (pc := 9) C dX0_differing_9 rfl ?_
        refine jr_calli (pc := 10) C gw_X0_75 ok_X0_isPoint (mX_isPoint _ (by omega)) rfl (by decide) (by decide) rfl rfl dX0_differing_10 rfl (Nat.le_of_ble_eq_true rfl) ?_
        rintro _ _ ⟨rfl, rfl⟩
        refine jr_if_neB (tgt := 18) (pc := 13) C dX0_differing_13 (by decide) (fun c_13 => ?_) (fun c_13 => ?_)
        · refine jr_iconst (pc := 18) (v := nI 0) C dX0_differing_18 (by decide) ?_
          refine jr_istore_n (pc := 19) C dX0_differing_19 (by decide) rfl ?_
          refine jr_iconst (pc := 20) (v := nI 0) C dX0_differing_20 (by decide) ?_
          refine jr_istore (pc := 21) C dX0_differing_21 (by decide) rfl ?_
          exact mX_differing_loop C hr hp hq3 hret 16 0 (by omega)
        · simp [hq2] at c_13
theorem mX_changedSince_loop (C : jw_C E cX0_changedSince 5 RX0 (tX cA) 3) (hr : xr_R G lc o bs en pr ct dy pn tc tk lm) {p : Nat} (hp : p < jg_n G) (hret : ∀ pc lv v w', decode cX0_changedSince pc = .ok (.ireturn, 1) → (v = nI (jp_cnt (fun f => jp_ne (jg_V G p f) (jg_lv G f)) 0 16) ∧ xw_R h ad cA G w') → jw_J E 5 w' pc lv [.int v]) : ∀ (k g : Nat), g + k = 16 → jw_J E 5 (wX h ad cA lc o bs en pr ct dy pn tc tk kp lm (jg_n G) (jg_td G)) 22 [(0, .ref h), (1, .int (nI p)), (2, .int (nI (o p))), (3, .int (nI (jp_cnt (fun f => jp_ne (jg_V G p f) (jg_lv G f)) 0 g))), (4, .int (nI g))] [] := by
  intro k
  have hn := xr_n hr
  have hop := xr_o hr hp
  induction k with
  | zero =>
    intro g hg
    have hcl := jp_cnt_le (fun f => jp_ne (jg_V G p f) (jg_lv G f)) 0 g
    refine jr_iload (pc := 22) C dX0_changedSince_22 rfl ?_
    refine jr_bipush (pc := 24) (v := nI 16) C dX0_changedSince_24 (by decide) ?_
    refine jr_icmp_geN (tgt := 62) (pc := 26) C dX0_changedSince_26 (by decide) (by omega) (by omega) (fun c_26 => ?_) (fun c_26 => ?_)
    · refine jr_iload_n (pc := 62) C dX0_changedSince_62 rfl ?_
      exact hret _ _ _ _ dX0_changedSince_63 ⟨by rw [show 16 = g by omega], xw_in hr⟩
    · exfalso; omega
  | succ k ih =>
    intro g hg
    have hcl := jp_cnt_le (fun f => jp_ne (jg_V G p f) (jg_lv G f)) 0 g
    refine jr_iload (pc := 22) C dX0_changedSince_22 rfl ?_
    refine jr_bipush (pc := 24) (v := nI 16) C dX0_changedSince_24 (by decide) ?_
    refine jr_icmp_geN (tgt := 62) (pc := 26) C dX0_changedSince_26 (by decide) (by omega) (by omega) (fun c_26 => ?_) (fun c_26 => ?_)
    · exfalso; omega
    · refine jr_aload_n (pc := 29) C dX0_changedSince_29 rfl ?_
      refine jx_g_tc (pc := 30) C dX0_changedSince_30 ?_
      refine jr_iload_n (pc := 33) C dX0_changedSince_33 rfl ?_
      refine jx_l_tc (pc := 34) C (by omega) dX0_changedSince_34 ?_
      refine jr_iload (pc := 35) C dX0_changedSince_35 rfl ?_
      refine jr_calls (pc := 37) C gw_X0_59 ok_X0_has (mX_has _ (by omega)) rfl (by decide) (by decide) dX0_changedSince_37 rfl (Nat.le_of_ble_eq_true rfl) ?_
      rintro _ _ ⟨rfl, rfl⟩
      refine jr_if_eqB (tgt := 56) (pc := 40) C dX0_changedSince_40 (by decide) (fun c_40 => ?_) (fun c_40 => ?_)
      · have c_50 : jp_ne (jg_V G p g) (jg_lv G g) = false := jp_ne_f (xr_T hr hp (by omega) c_40)
        refine jr_inc (pc := 56) C dX0_changedSince_56 rfl (by decide) rfl ?_
        refine jr_goto (tgt := 22) (pc := 59) C dX0_changedSince_59 (by decide) ?_
        first
          | (rw [← jp_cnt_t (P := (fun f => jp_ne (jg_V G p f) (jg_lv G f))) (a := 0) (k := g) (by rw [Nat.zero_add]; exact c_50)]; exact ih (g + 1) (by omega))
          | (rw [← jp_cnt_f (P := (fun f => jp_ne (jg_V G p f) (jg_lv G f))) (a := 0) (k := g) (by rw [Nat.zero_add]; exact c_50)]; exact ih (g + 1) (by omega))
      · refine jr_aload_n (pc := 43) C dX0_changedSince_43 rfl ?_
        refine jr_iload_n (pc := 44) C dX0_changedSince_44 rfl ?_
        refine jr_iload (pc := 45) C dX0_changedSince_45 rfl ?_
        refine jr_calli (pc := 47) C gw_X0_97 ok_X0_isLive (mX_isLive hr hp (by omega)) rfl (by decide) (by decide) rfl rfl dX0_changedSince_47 rfl (Nat.le_of_ble_eq_true rfl) ?_
        rintro _ _ ⟨rfl, rfl⟩
        refine jr_if_neB (tgt := 56) (pc := 50) C dX0_changedSince_50 (by decide) (fun c_50 => ?_) (fun c_50 => ?_)
        · have c_50 : jp_ne (jg_V G p g) (jg_lv G g) = false := by simpa using c_50
          refine jr_inc (pc := 56) C dX0_changedSince_56 rfl (by decide) rfl ?_
          refine jr_goto (tgt := 22) (pc := 59) C dX0_changedSince_59 (by decide) ?_
          first
            | (rw [← jp_cnt_t (P := (fun f => jp_ne (jg_V G p f) (jg_lv G f))) (a := 0) (k := g) (by rw [Nat.zero_add]; exact c_50)]; exact ih (g + 1) (by omega))
            | (rw [← jp_cnt_f (P := (fun f => jp_ne (jg_V G p f) (jg_lv G f))) (a := 0) (k := g) (by rw [Nat.zero_add]; exact c_50)]; exact ih (g + 1) (by omega))
        · have c_50 : jp_ne (jg_V G p g) (jg_lv G g) = true := by simpa using c_50
          refine jr_inc (pc := 53) C dX0_changedSince_53 rfl (by decide) rfl ?_
          refine jr_inc (pc := 56) C dX0_changedSince_56 rfl (by decide) rfl ?_
          refine jr_goto (tgt := 22) (pc := 59) C dX0_changedSince_59 (by decide) ?_
          first
            | (rw [← jp_cnt_t (P := (fun f => jp_ne (jg_V G p f) (jg_lv G f))) (a := 0) (k := g) (by rw [Nat.zero_add]; exact c_50)]; exact ih (g + 1) (by omega))
            | (rw [← jp_cnt_f (P := (fun f => jp_ne (jg_V G p f) (jg_lv G f))) (a := 0) (k := g) (by rw [Nat.zero_add]; exact c_50)]; exact ih (g + 1) (by omega))
/-- changedSince -/
theorem mX_changedSince (hr : xr_R G lc o bs en pr ct dy pn tc tk lm) (a : Int32) : jw_Mi yX0_changedSince cX0_changedSince 5 (some .int) 3 D (tX cA) [.ref h, .int a] (wX h ad cA lc o bs en pr ct dy pn tc tk kp lm (jg_n G) (jg_td G)) (fun r w' => r = (sp_changedSince a G).1 ∧ xw_R h ad cA (sp_changedSince a G).2 w') := by
  have hn := xr_n hr
  cases hq : jp_ix a (jg_n G) with
  | none =>
    rw [show sp_changedSince a G = (-1, G) from by simp only [sp_changedSince, hq]]
    refine jw_Mi.of (own := RX0) (by decide) rfl (Nat.le_of_ble_eq_true rfl) (fun _ _ _ => rfl) ?_
    intro E hE C hret
    subst hE
    show jw_J E 5 _ 0 [(0, .ref h), (1, .int a)] []
    refine jr_aload_n (pc := 0) C dX0_changedSince_0 rfl ?_
    refine jr_iload_n (pc := 1) C dX0_changedSince_1 rfl ?_
    refine jr_calli (pc := 2) C gw_X0_75 ok_X0_isPoint (mX_isPoint _ (by omega)) rfl (by decide) (by decide) rfl rfl dX0_changedSince_2 rfl (Nat.le_of_ble_eq_true rfl) ?_
    rintro _ _ ⟨rfl, rfl⟩
    refine jr_if_neB (tgt := 10) (pc := 5) C dX0_changedSince_5 (by decide) (fun c_5 => ?_) (fun c_5 => ?_)
    · simp [hq] at c_5
    · refine jr_iconst (pc := 8) (v := (-1)) C dX0_changedSince_8 (by decide) ?_
      exact hret _ _ _ _ dX0_changedSince_9 ⟨rfl, xw_in hr⟩
  | some p =>
    obtain ⟨hp, rfl⟩ := jp_ix_some hq
    rw [show sp_changedSince (nI p) G = (nI (jp_cnt (fun f => jp_ne (jg_V G p f) (jg_lv G f)) 0 16), G) from by simp only [sp_changedSince, hq]]
    refine jw_Mi.of (own := RX0) (by decide) rfl (Nat.le_of_ble_eq_true rfl) (fun _ _ _ => rfl) ?_
    intro E hE C hret
    subst hE
    show jw_J E 5 _ 0 [(0, .ref h), (1, .int (nI p))] []
    refine jr_aload_n (pc := 0) C dX0_changedSince_0 rfl ?_
    refine jr_iload_n (pc := 1) C dX0_changedSince_1 rfl ?_
    refine jr_calli (pc := 2) C gw_X0_75 ok_X0_isPoint (mX_isPoint _ (by omega)) rfl (by decide) (by decide) rfl rfl dX0_changedSince_2 rfl (Nat.le_of_ble_eq_true rfl) ?_
    rintro _ _ ⟨rfl, rfl⟩
    refine jr_if_neB (tgt := 10) (pc := 5) C dX0_changedSince_5 (by decide) (fun c_5 => ?_) (fun c_5 => ?_)
    · refine jr_aload_n (pc := 10) C dX0_changedSince_10 rfl ?_
      refine jx_g_o (pc := 11) C dX0_changedSince_11 ?_
      refine jr_iload_n (pc := 14) C dX0_changedSince_14 rfl ?_
      refine jx_l_o (pc := 15) C (by omega) dX0_changedSince_15 ?_
      refine jr_istore_n (pc := 16) C dX0_changedSince_16 (by decide) rfl ?_
      refine jr_iconst (pc := 17) (v := nI 0) C dX0_changedSince_17 (by decide) ?_
      refine jr_istore_n (pc := 18) C dX0_changedSince_18 (by decide) rfl ?_
      refine jr_iconst (pc := 19) (v := nI 0) C dX0_changedSince_19 (by decide) ?_
      refine jr_istore (pc := 20) C dX0_changedSince_20 (by decide) rfl ?_
      exact mX_changedSince_loop C hr hp hret 16 0 (by omega)
    · simp [hq] at c_5
theorem mX_versions_loop (C : jw_C E cX0_versions 4 RX0 (tX cA) 3) (hr : xr_R G lc o bs en pr ct dy pn tc tk lm) {f : Nat} (hf : f < 16) (hret : ∀ pc lv v w', decode cX0_versions pc = .ok (.ireturn, 1) → (v = nI (jp_cnt (fun p => jp_ne (jg_V G (p - 1) f) (jg_V G p f)) 1 (jg_n G - 1)) ∧ xw_R h ad cA G w') → jw_J E 4 w' pc lv [.int v]) : ∀ (k j : Nat), j + k = jg_n G - 1 → jw_J E 4 (wX h ad cA lc o bs en pr ct dy pn tc tk kp lm (jg_n G) (jg_td G)) 13 [(0, .ref h), (1, .int (nI f)), (2, .int (nI (jp_cnt (fun p => jp_ne (jg_V G (p - 1) f) (jg_V G p f)) 1 j))), (3, .int (nI (1 + j)))] [] := by
  intro k
  have hn := xr_n hr
  induction k with
  | zero =>
    intro j hj
    have hcl := jp_cnt_le (fun p => jp_ne (jg_V G (p - 1) f) (jg_V G p f)) 1 j
    refine jr_iload_n (pc := 13) C dX0_versions_13 rfl ?_
    refine jr_aload_n (pc := 14) C dX0_versions_14 rfl ?_
    refine jx_g_n (pc := 15) C dX0_versions_15 ?_
    refine jr_icmp_geN (tgt := 52) (pc := 18) C dX0_versions_18 (by decide) (by omega) (by omega) (fun c_18 => ?_) (fun c_18 => ?_)
    · refine jr_iload_n (pc := 52) C dX0_versions_52 rfl ?_
      exact hret _ _ _ _ dX0_versions_53 ⟨by rw [show jg_n G - 1 = j by omega], xw_in hr⟩
    · exfalso; omega
  | succ k ih =>
    intro j hj
    have hcl := jp_cnt_le (fun p => jp_ne (jg_V G (p - 1) f) (jg_V G p f)) 1 j
    refine jr_iload_n (pc := 13) C dX0_versions_13 rfl ?_
    refine jr_aload_n (pc := 14) C dX0_versions_14 rfl ?_
    refine jx_g_n (pc := 15) C dX0_versions_15 ?_
    refine jr_icmp_geN (tgt := 52) (pc := 18) C dX0_versions_18 (by decide) (by omega) (by omega) (fun c_18 => ?_) (fun c_18 => ?_)
    · exfalso; omega
    · refine jr_aload_n (pc := 21) C dX0_versions_21 rfl ?_
      refine jr_aload_n (pc := 22) C dX0_versions_22 rfl ?_
      refine jx_g_o (pc := 23) C dX0_versions_23 ?_
      refine jr_iload_n (pc := 26) C dX0_versions_26 rfl ?_
      refine jr_iconst (pc := 27) (v := nI 1) C dX0_versions_27 (by decide) ?_
      refine jr_isubN (pc := 28) C dX0_versions_28 (by omega) ?_
      refine jx_l_o (pc := 29) C (by omega) dX0_versions_29 ?_
      refine jr_aload_n (pc := 30) C dX0_versions_30 rfl ?_
      refine jx_g_o (pc := 31) C dX0_versions_31 ?_
      refine jr_iload_n (pc := 34) C dX0_versions_34 rfl ?_
      refine jx_l_o (pc := 35) C (by omega) dX0_versions_35 ?_
      refine jr_iload_n (pc := 36) C dX0_versions_36 rfl ?_
      refine jr_calli (pc := 37) C gw_X0_93 ok_X0_differs (mX_differs hr (p := 1 + j - 1) (q := 1 + j) (by omega) (by omega) hf) rfl (by decide) (by decide) rfl rfl dX0_versions_37 rfl (Nat.le_of_ble_eq_true rfl) ?_
      rintro _ _ ⟨rfl, rfl⟩
      refine jr_if_eqB (tgt := 46) (pc := 40) C dX0_versions_40 (by decide) (fun c_40 => ?_) (fun c_40 => ?_)
      · refine jr_inc (pc := 46) C dX0_versions_46 rfl (by decide) rfl ?_
        refine jr_goto (tgt := 13) (pc := 49) C dX0_versions_49 (by decide) ?_
        first
          | (rw [← jp_cnt_t (P := (fun p => jp_ne (jg_V G (p - 1) f) (jg_V G p f))) (a := 1) (k := j) c_40]; exact ih (j + 1) (by omega))
          | (rw [← jp_cnt_f (P := (fun p => jp_ne (jg_V G (p - 1) f) (jg_V G p f))) (a := 1) (k := j) c_40]; exact ih (j + 1) (by omega))
      · refine jr_inc (pc := 43) C dX0_versions_43 rfl (by decide) rfl ?_
        refine jr_inc (pc := 46) C dX0_versions_46 rfl (by decide) rfl ?_
        refine jr_goto (tgt := 13) (pc := 49) C dX0_versions_49 (by decide) ?_
        first
          | (rw [← jp_cnt_t (P := (fun p => jp_ne (jg_V G (p - 1) f) (jg_V G p f))) (a := 1) (k := j) c_40]; exact ih (j + 1) (by omega))
          | (rw [← jp_cnt_f (P := (fun p => jp_ne (jg_V G (p - 1) f) (jg_V G p f))) (a := 1) (k := j) c_40]; exact ih (j + 1) (by omega))
/-- versions -/
theorem mX_versions (hr : xr_R G lc o bs en pr ct dy pn tc tk lm) (a : Int32) : jw_Mi yX0_versions cX0_versions 4 (some .int) 3 D (tX cA) [.ref h, .int a] (wX h ad cA lc o bs en pr ct dy pn tc tk kp lm (jg_n G) (jg_td G)) (fun r w' => r = (sp_versions a G).1 ∧ xw_R h ad cA (sp_versions a G).2 w') := by
  have hn := xr_n hr
  cases hq : jp_ix a 16 with
  | none =>
    rw [show sp_versions a G = (-1, G) from by simp only [sp_versions, hq]]
    refine jw_Mi.of (own := RX0) (by decide) rfl (Nat.le_of_ble_eq_true rfl) (fun _ _ _ => rfl) ?_
    intro E hE C hret
    subst hE
    show jw_J E 4 _ 0 [(0, .ref h), (1, .int a)] []
    refine jr_iload_n (pc := 0) C dX0_versions_0 rfl ?_
    refine jr_calls (pc := 1) C gw_X0_48 ok_X0_isFile (mX_isFile _) rfl (by decide) (by decide) dX0_versions_1 rfl (Nat.le_of_ble_eq_true rfl) ?_
    rintro _ _ ⟨rfl, rfl⟩
    refine jr_if_neB (tgt := 9) (pc := 4) C dX0_versions_4 (by decide) (fun c_4 => ?_) (fun c_4 => ?_)
    · simp [hq] at c_4
    · refine jr_iconst (pc := 7) (v := (-1)) C dX0_versions_7 (by decide) ?_
      exact hret _ _ _ _ dX0_versions_8 ⟨rfl, xw_in hr⟩
  | some f =>
    obtain ⟨hf, rfl⟩ := jp_ix_some hq
    rw [show sp_versions (nI f) G = (nI (jp_cnt (fun p => jp_ne (jg_V G (p - 1) f) (jg_V G p f)) 1 (jg_n G - 1)), G) from by simp only [sp_versions, hq]]
    refine jw_Mi.of (own := RX0) (by decide) rfl (Nat.le_of_ble_eq_true rfl) (fun _ _ _ => rfl) ?_
    intro E hE C hret
    subst hE
    show jw_J E 4 _ 0 [(0, .ref h), (1, .int (nI f))] []
    refine jr_iload_n (pc := 0) C dX0_versions_0 rfl ?_
    refine jr_calls (pc := 1) C gw_X0_48 ok_X0_isFile (mX_isFile _) rfl (by decide) (by decide) dX0_versions_1 rfl (Nat.le_of_ble_eq_true rfl) ?_
    rintro _ _ ⟨rfl, rfl⟩
    refine jr_if_neB (tgt := 9) (pc := 4) C dX0_versions_4 (by decide) (fun c_4 => ?_) (fun c_4 => ?_)
    · refine jr_iconst (pc := 9) (v := nI 0) C dX0_versions_9 (by decide) ?_
      refine jr_istore_n (pc := 10) C dX0_versions_10 (by decide) rfl ?_
      refine jr_iconst (pc := 11) (v := nI 1) C dX0_versions_11 (by decide) ?_
      refine jr_istore_n (pc := 12) C dX0_versions_12 (by decide) rfl ?_
      exact mX_versions_loop C hr hf hret (jg_n G - 1) 0 (by omega)
    · simp [hq] at c_4
theorem mX_sum_loop (C : jw_C E cX0_sum 5 RX0 (tX cA) 2) (hr : xr_R G lc o bs en pr ct dy pn tc tk lm) {p : Nat} (hp : p < jg_n G) (hret : ∀ pc lv v w', decode cX0_sum pc = .ok (.ireturn, 1) → (v = jp_sum (fun f => (jg_V G p f).getD 0) 16 ∧ xw_R h ad cA G w') → jw_J E 5 w' pc lv [.int v]) : ∀ (k g : Nat), g + k = 16 → jw_J E 5 (wX h ad cA lc o bs en pr ct dy pn tc tk kp lm (jg_n G) (jg_td G)) 14 [(0, .ref h), (1, .int (nI p)), (2, .int (jp_sum (fun f => (jg_V G p f).getD 0) g)), (3, .int (nI g))] [] := by
  intro k
  have hn := xr_n hr
  induction k with
  | zero =>
    intro g hg
    refine jr_iload_n (pc := 14) C dX0_sum_14 rfl ?_
    refine jr_bipush (pc := 15) (v := nI 16) C dX0_sum_15 (by decide) ?_
    refine jr_icmp_geN (tgt := 72) (pc := 17) C dX0_sum_17 (by decide) (by omega) (by omega) (fun c_17 => ?_) (fun c_17 => ?_)
    · refine jr_iload_n (pc := 72) C dX0_sum_72 rfl ?_
      exact hret _ _ _ _ dX0_sum_73 ⟨by rw [show 16 = g by omega], xw_in hr⟩
    · exfalso; omega
  | succ k ih =>
    intro g hg
    refine jr_iload_n (pc := 14) C dX0_sum_14 rfl ?_
    refine jr_bipush (pc := 15) (v := nI 16) C dX0_sum_15 (by decide) ?_
    refine jr_icmp_geN (tgt := 72) (pc := 17) C dX0_sum_17 (by decide) (by omega) (by omega) (fun c_17 => ?_) (fun c_17 => ?_)
    · exfalso; omega
    · refine jr_aload_n (pc := 20) C dX0_sum_20 rfl ?_
      refine jr_aload_n (pc := 21) C dX0_sum_21 rfl ?_
      refine jx_g_o (pc := 22) C dX0_sum_22 ?_
      refine jr_iload_n (pc := 25) C dX0_sum_25 rfl ?_
      refine jx_l_o (pc := 26) C (by omega) dX0_sum_26 ?_
      refine jr_iload_n (pc := 27) C dX0_sum_27 rfl ?_
      refine jr_calli (pc := 28) C gw_X0_90 ok_X0_holder (mX_holder hr hp (by omega)) rfl (by decide) (by decide) rfl rfl dX0_sum_28 rfl (Nat.le_of_ble_eq_true rfl) ?_
      rintro _ _ ⟨⟨q0, hq0, rfl, he0, hv0⟩, rfl⟩
      have ho0 := xr_o hr (p := q0) (by omega)
      have hE0 := xr_E hr (p := q0) (by omega) (by omega) he0
      refine jr_istore (pc := 31) C dX0_sum_31 (by decide) rfl ?_
      refine jr_iload_n (pc := 33) C dX0_sum_33 rfl ?_
      refine jr_aload_n (pc := 34) C dX0_sum_34 rfl ?_
      refine jx_g_pr (pc := 35) C dX0_sum_35 ?_
      refine jr_iload (pc := 38) C dX0_sum_38 rfl ?_
      refine jx_l_pr (pc := 40) C (by omega) dX0_sum_40 ?_
      refine jr_iload_n (pc := 41) C dX0_sum_41 rfl ?_
      refine jr_calls (pc := 42) C gw_X0_59 ok_X0_has (mX_has _ (by omega)) rfl (by decide) (by decide) dX0_sum_42 rfl (Nat.le_of_ble_eq_true rfl) ?_
      rintro _ _ ⟨rfl, rfl⟩
      refine jr_if_eqB (tgt := 63) (pc := 45) C dX0_sum_45 (by decide) (fun c_45 => ?_) (fun c_45 => ?_)
      · refine jr_iconst (pc := 63) (v := nI 0) C dX0_sum_63 (by decide) ?_
        refine jr_top (show _ = (jg_V G p g).getD 0 from by rw [← hv0, ← hE0, jp_vl_gd, c_45]; rfl) ?_
        refine jr_iadd (pc := 64) C dX0_sum_64 ?_
        refine jr_istore_n (pc := 65) C dX0_sum_65 (by decide) rfl ?_
        refine jr_inc (pc := 66) C dX0_sum_66 rfl (by decide) rfl ?_
        refine jr_goto (tgt := 14) (pc := 69) C dX0_sum_69 (by decide) ?_
        exact jr_sub (ih (g + 1) (by omega)) rfl
      · refine jr_aload_n (pc := 48) C dX0_sum_48 rfl ?_
        refine jx_g_ct (pc := 49) C dX0_sum_49 ?_
        refine jr_bipush (pc := 52) (v := nI 16) C dX0_sum_52 (by decide) ?_
        refine jr_iload (pc := 54) C dX0_sum_54 rfl ?_
        refine jr_imulN (pc := 56) C dX0_sum_56 ?_
        refine jr_iload_n (pc := 57) C dX0_sum_57 rfl ?_
        refine jr_iaddN (pc := 58) C dX0_sum_58 ?_
        refine jx_l_ct (pc := 59) C (by omega) dX0_sum_59 ?_
        refine jr_goto (tgt := 64) (pc := 60) C dX0_sum_60 (by decide) ?_
        refine jr_top (show _ = (jg_V G p g).getD 0 from by rw [← hv0, ← hE0, jp_vl_gd, c_45]; rfl) ?_
        refine jr_iadd (pc := 64) C dX0_sum_64 ?_
        refine jr_istore_n (pc := 65) C dX0_sum_65 (by decide) rfl ?_
        refine jr_inc (pc := 66) C dX0_sum_66 rfl (by decide) rfl ?_
        refine jr_goto (tgt := 14) (pc := 69) C dX0_sum_69 (by decide) ?_
        exact jr_sub (ih (g + 1) (by omega)) rfl
/-- sum -/
theorem mX_sum (hr : xr_R G lc o bs en pr ct dy pn tc tk lm) (a : Int32) : jw_Mi yX0_sum cX0_sum 5 (some .int) 2 D (tX cA) [.ref h, .int a] (wX h ad cA lc o bs en pr ct dy pn tc tk kp lm (jg_n G) (jg_td G)) (fun r w' => r = (sp_sum a G).1 ∧ xw_R h ad cA (sp_sum a G).2 w') := by
  have hn := xr_n hr
  cases hq : jp_ix a (jg_n G) with
  | none =>
    rw [show sp_sum a G = (0, G) from by simp only [sp_sum, hq]]
    refine jw_Mi.of (own := RX0) (by decide) rfl (Nat.le_of_ble_eq_true rfl) (fun _ _ _ => rfl) ?_
    intro E hE C hret
    subst hE
    show jw_J E 5 _ 0 [(0, .ref h), (1, .int a)] []
    refine jr_aload_n (pc := 0) C dX0_sum_0 rfl ?_
    refine jr_iload_n (pc := 1) C dX0_sum_1 rfl ?_
    refine jr_calli (pc := 2) C gw_X0_75 ok_X0_isPoint (mX_isPoint _ (by omega)) rfl (by decide) (by decide) rfl rfl dX0_sum_2 rfl (Nat.le_of_ble_eq_true rfl) ?_
    rintro _ _ ⟨rfl, rfl⟩
    refine jr_if_neB (tgt := 10) (pc := 5) C dX0_sum_5 (by decide) (fun c_5 => ?_) (fun c_5 => ?_)
    · simp [hq] at c_5
    · refine jr_iconst (pc := 8) (v := nI 0) C dX0_sum_8 (by decide) ?_
      exact hret _ _ _ _ dX0_sum_9 ⟨rfl, xw_in hr⟩
  | some p =>
    obtain ⟨hp, rfl⟩ := jp_ix_some hq
    rw [show sp_sum (nI p) G = (jp_sum (fun f => (jg_V G p f).getD 0) 16, G) from by simp only [sp_sum, hq]]
    refine jw_Mi.of (own := RX0) (by decide) rfl (Nat.le_of_ble_eq_true rfl) (fun _ _ _ => rfl) ?_
    intro E hE C hret
    subst hE
    show jw_J E 5 _ 0 [(0, .ref h), (1, .int (nI p))] []
    refine jr_aload_n (pc := 0) C dX0_sum_0 rfl ?_
    refine jr_iload_n (pc := 1) C dX0_sum_1 rfl ?_
    refine jr_calli (pc := 2) C gw_X0_75 ok_X0_isPoint (mX_isPoint _ (by omega)) rfl (by decide) (by decide) rfl rfl dX0_sum_2 rfl (Nat.le_of_ble_eq_true rfl) ?_
    rintro _ _ ⟨rfl, rfl⟩
    refine jr_if_neB (tgt := 10) (pc := 5) C dX0_sum_5 (by decide) (fun c_5 => ?_) (fun c_5 => ?_)
    · refine jr_iconst (pc := 10) (v := nI 0) C dX0_sum_10 (by decide) ?_
      refine jr_istore_n (pc := 11) C dX0_sum_11 (by decide) rfl ?_
      refine jr_iconst (pc := 12) (v := nI 0) C dX0_sum_12 (by decide) ?_
      refine jr_istore_n (pc := 13) C dX0_sum_13 (by decide) rfl ?_
      exact mX_sum_loop C hr hp hret 16 0 (by omega)
    · simp [hq] at c_5
end
end
section
/-! the component: take -/
set_option maxRecDepth 100000
theorem jp_us {α : Type} {f : Nat → α} {k : Nat} {v : α} : va_up f k v k = v := by unfold va_up; rw [if_pos rfl]
theorem jp_un {α : Type} {f : Nat → α} {k j : Nat} {v : α} (h : j ≠ k) : va_up f k v j = f j := by unfold va_up; rw [if_neg h]
theorem jp_pigeon : ∀ (m n : Nat) (o : Nat → Nat), (∀ t, t < m → ∃ p, p < n ∧ o p = t) → m ≤ n := by
  intro m
  induction m with
  | zero => intro n o h; exact Nat.zero_le _
  | succ m ih =>
    intro n o h
    obtain ⟨p, hp, ep⟩ := h m (Nat.lt_succ_self _)
    have := ih (n - 1) (jp_sh o p) (fun t ht => by
      obtain ⟨q, hq, eq⟩ := h t (by omega)
      have hne : q ≠ p := fun z => by rw [z, ep] at eq; omega
      by_cases c : q < p
      · exact ⟨q, by omega, by unfold jp_sh; rw [if_pos c]; exact eq⟩
      · exact ⟨q - 1, by omega, by unfold jp_sh; rw [if_neg (by omega), show q - 1 + 1 = q by omega]; exact eq⟩)
    omega
section
variable {D : va_G} {E : je_E} {h : Nat} {ad : Nat → Nat} {cA : Nat → ClassId} {tys : List (ClassId × FieldType)} {w : va_W} {lc : Nat → Int32} {o : Nat → Nat} {bs : Nat → Option Nat} {en pr ct : Nat → Int32} {dy : Nat → Nat} {pn : Nat → Bool} {tc : Nat → Int32} {tk kp : Nat → Bool} {lm : Int32} {n td : Nat} {G : jg_G}
theorem xr_free (hr : xr_R G lc o bs en pr ct dy pn tc tk lm) (hn : jg_n G < 14) : ∃ t, t < 14 ∧ tk t = false := Classical.byContradiction fun hno => by
  have h : ∀ t, t < 14 → ∃ p, p < jg_n G ∧ o p = t := fun t ht => xr_tk1 hr ht (by
    cases e : tk t with
    | true => rfl
    | false => exact absurd ⟨t, ht, e⟩ hno)
  have := jp_pigeon 14 _ o h
  omega
theorem xr_take (hr : xr_R G lc o bs en pr ct dy pn tc tk lm) {s : Nat} (hs : s < 14) (hts : tk s = false) (hn : jg_n G < 14) {x : Option Nat} {v : Int32} (hx : (x = none ∧ ∀ f, f < 16 → bt v f = true) ∨ ∃ q, q < jg_n G ∧ x = some (o q) ∧ v = tc (o q)) {ct' : Nat → Int32} (hc1 : ∀ f, f < 16 → ct' (16 * s + f) = if bt v f = true then lc f else 0) (hc2 : ∀ i, (∀ f, f < 16 → i ≠ 16 * s + f) → ct' i = ct i) : xr_R (jg_lv G, jg_n G + 1, va_up (jg_V G) (jg_n G) (jg_lv G), va_up (jg_dv G) (jg_n G) (jg_td G), va_up (jg_pv G) (jg_n G) false, jg_td G) lc (va_up o (jg_n G) s) (va_up bs s x) (va_up en s v) (va_up pr s (lm &&& v)) ct' (va_up dy s (jg_td G)) (va_up pn s false) (va_up tc s (nI 0)) (va_up tk s true) lm := by
  obtain ⟨a1, a2, a3, a4, a5, a6, a7, a8, a9, a10, a11, a12, a13⟩ := hr
  have hso : ∀ p, p < jg_n G → o p ≠ s := fun p hp e => by
    have := a6 p hp
    rw [e, hts] at this
    cases this
  have ho : ∀ p, p < jg_n G → va_up o (jg_n G) s p = o p := fun p hp => jp_un (by omega)
  have hlt : ∀ p, p < jg_n G + 1 → ¬ p = jg_n G → p < jg_n G := fun p h1 h2 => by omega
  refine ⟨by show jg_n G + 1 ≤ 14; omega, a2, fun p hp => ?_, fun p q hp hq e => ?_, fun t ht htk => ?_, fun p hp => ?_, fun p hp => ?_, fun p q hpq hq => ?_, a9, fun p hp f hf he => ?_, fun p hp f hf he => ?_, fun p hp => ?_, fun p hp f hf ht => ?_⟩
  · by_cases e : p = jg_n G
    · rw [e, jp_us]; exact hs
    · rw [jp_un e]; exact a3 p (hlt p hp e)
  · by_cases e1 : p = jg_n G
    · by_cases e2 : q = jg_n G
      · rw [e1, e2]
      · rw [e1, jp_us, jp_un e2] at e
        exact absurd e.symm (hso q (hlt q hq e2))
    · by_cases e2 : q = jg_n G
      · rw [e2, jp_us, jp_un e1] at e
        exact absurd e (hso p (hlt p hp e1))
      · rw [jp_un e1, jp_un e2] at e
        exact a4 p q (hlt p hp e1) (hlt q hq e2) e
  · by_cases e : t = s
    · exact ⟨jg_n G, Nat.lt_succ_self _, by rw [jp_us, e]⟩
    · rw [jp_un e] at htk
      obtain ⟨p, hp, ep⟩ := a5 t ht htk
      exact ⟨p, Nat.lt_succ_of_lt hp, by rw [ho p hp, ep]⟩
  · by_cases e : p = jg_n G
    · rw [e, jp_us, jp_us]
    · rw [jp_un e, jp_un (hso p (hlt p hp e))]
      exact a6 p (hlt p hp e)
  · by_cases e : p = jg_n G
    · subst e
      exact ⟨by rw [jp_us, jp_us]; exact jp_us.symm, by rw [jp_us, jp_us]; exact jp_us.symm, by show va_up (jg_dv G) (jg_n G) (jg_td G) (jg_n G) ≤ _; rw [jp_us]; exact Nat.le_refl _⟩
    · have hp' := hlt p hp e
      rw [jp_un e, jp_un (hso p hp'), jp_un (hso p hp')]
      exact ⟨by show _ = va_up (jg_dv G) (jg_n G) (jg_td G) p; rw [jp_un e]; exact (a7 p hp').1, by show _ = va_up (jg_pv G) (jg_n G) false p; rw [jp_un e]; exact (a7 p hp').2.1, by show va_up (jg_dv G) (jg_n G) (jg_td G) p ≤ _; rw [jp_un e]; exact (a7 p hp').2.2⟩
  · show va_up (jg_dv G) (jg_n G) (jg_td G) p ≤ va_up (jg_dv G) (jg_n G) (jg_td G) q
    by_cases e2 : q = jg_n G
    · rw [e2, jp_us]
      by_cases e1 : p = jg_n G
      · rw [e1, jp_us]; exact Nat.le_refl _
      · rw [jp_un e1]; exact (a7 p (by omega)).2.2
    · have hq' := hlt q hq e2
      rw [jp_un e2, jp_un (by omega)]
      exact a8 p q hpq hq'
  · show _ = va_up (jg_V G) (jg_n G) (jg_lv G) p f
    by_cases e : p = jg_n G
    · subst e
      rw [jp_us, jp_us] at he
      rw [jp_us, jp_us, jp_us, hc1 f hf, if_pos he, b_and, he, Bool.and_true]
      exact a9 f hf
    · have hp' := hlt p hp e
      rw [jp_un e, jp_un (hso p hp')] at he
      rw [jp_un e, jp_un e, jp_un (hso p hp'), hc2 (16 * o p + f) (fun g hg z => hso p hp' (by omega))]
      exact a10 p hp' f hf he
  · by_cases e : p = jg_n G
    · subst e
      rw [jp_us, jp_us] at he
      rcases hx with ⟨_, h1⟩ | ⟨q, hq, h1, h2⟩
      · rw [h1 f hf] at he; cases he
      · refine ⟨by rw [jp_us, jp_us, b_and, he, Bool.and_false], q, hq, by rw [jp_us, jp_us, ho q hq]; exact h1, ?_⟩
        show va_up (jg_V G) (jg_n G) (jg_lv G) (jg_n G) f = va_up (jg_V G) (jg_n G) (jg_lv G) q f
        rw [jp_us, jp_un (by omega)]
        rw [h2] at he
        exact (a13 q hq f hf he).symm
    · have hp' := hlt p hp e
      rw [jp_un e, jp_un (hso p hp')] at he
      obtain ⟨b1, q, hq, b2, b3⟩ := a11 p hp' f hf he
      refine ⟨by rw [jp_un e, jp_un (hso p hp')]; exact b1, q, hq, by rw [jp_un e, jp_un (hso p hp'), ho q (by omega)]; exact b2, ?_⟩
      show va_up (jg_V G) (jg_n G) (jg_lv G) p f = va_up (jg_V G) (jg_n G) (jg_lv G) q f
      rw [jp_un e, jp_un (by omega)]
      exact b3
  · by_cases e : p = jg_n G
    · subst e
      rw [jp_us, jp_us]
      rcases hx with ⟨h1, _⟩ | ⟨q, hq, h1, _⟩
      · exact Or.inl h1
      · exact Or.inr ⟨q, hq, by rw [ho q hq]; exact h1⟩
    · have hp' := hlt p hp e
      rw [jp_un e, jp_un (hso p hp')]
      rcases a12 p hp' with h1 | ⟨q, hq, h1⟩
      · exact Or.inl h1
      · exact Or.inr ⟨q, hq, by rw [ho q (by omega)]; exact h1⟩
  · show va_up (jg_V G) (jg_n G) (jg_lv G) p f = jg_lv G f
    by_cases e : p = jg_n G
    · rw [e, jp_us]
    · have hp' := hlt p hp e
      rw [jp_un e, jp_un (hso p hp')] at ht
      rw [jp_un e]
      exact a13 p hp' f hf ht
theorem mX_freeSlot_loop (C : jw_C E cX0_freeSlot 2 RX0 (tX cA) 0) (hx : ∃ t, t < 14 ∧ tk t = false) (hret : ∀ pc lv v w', decode cX0_freeSlot pc = .ok (.ireturn, 1) → ((∃ s, s < 14 ∧ tk s = false ∧ v = nI s) ∧ w' = (wX h ad cA lc o bs en pr ct dy pn tc tk kp lm n td)) → jw_J E 2 w' pc lv [.int v]) : ∀ (k i : Nat), i + k = 14 → (∀ t, t < i → tk t = true) → jw_J E 2 (wX h ad cA lc o bs en pr ct dy pn tc tk kp lm n td) 2 [(0, .ref h), (1, .int (nI i))] [] := by
  intro k
  induction k with
  | zero =>
    intro i hi h1
    obtain ⟨t, ht, e⟩ := hx
    rw [h1 t (by omega)] at e
    cases e
  | succ k ih =>
    intro i hi h1
    refine jr_iload_n (pc := 2) C dX0_freeSlot_2 rfl ?_
    refine jr_bipush (pc := 3) (v := nI 14) C dX0_freeSlot_3 (by decide) ?_
    refine jr_icmp_geN (tgt := 25) (pc := 5) C dX0_freeSlot_5 (by decide) (by omega) (by omega) (fun c_5 => ?_) (fun c_5 => ?_)
    · exfalso; omega
    · refine jr_aload_n (pc := 8) C dX0_freeSlot_8 rfl ?_
      refine jx_g_tk (pc := 9) C dX0_freeSlot_9 ?_
      refine jr_iload_n (pc := 12) C dX0_freeSlot_12 rfl ?_
      refine jx_l_tk (pc := 13) C (by omega) dX0_freeSlot_13 ?_
      refine jr_if_neB (tgt := 19) (pc := 14) C dX0_freeSlot_14 (by decide) (fun c_14 => ?_) (fun c_14 => ?_)
      · refine jr_inc (pc := 19) C dX0_freeSlot_19 rfl (by decide) rfl ?_
        refine jr_goto (tgt := 2) (pc := 22) C dX0_freeSlot_22 (by decide) ?_
        refine ih (i + 1) (by omega) (fun t ht => ?_)
        by_cases e : t = i
        · rw [e]; exact c_14
        · exact h1 t (by omega)
      · refine jr_iload_n (pc := 17) C dX0_freeSlot_17 rfl ?_
        exact hret _ _ _ _ dX0_freeSlot_18 ⟨⟨i, by omega, c_14, rfl⟩, rfl⟩
/-- freeSlot(): a slot that isn't taken -/
theorem mX_freeSlot (hx : ∃ t, t < 14 ∧ tk t = false) : jw_Mi yX0_freeSlot cX0_freeSlot 2 (some .int) 0 D (tX cA) [.ref h] (wX h ad cA lc o bs en pr ct dy pn tc tk kp lm n td) (fun r w' => (∃ s, s < 14 ∧ tk s = false ∧ r = nI s) ∧ w' = (wX h ad cA lc o bs en pr ct dy pn tc tk kp lm n td)) := by
  refine jw_Mi.of (own := RX0) (by decide) rfl (Nat.le_of_ble_eq_true rfl) (fun _ _ _ => rfl) ?_
  intro E hE C hret
  subst hE
  show jw_J E 2 _ 0 [(0, .ref h)] []
  refine jr_iconst (pc := 0) (v := nI 0) C dX0_freeSlot_0 (by decide) ?_
  refine jr_istore_n (pc := 1) C dX0_freeSlot_1 (by decide) rfl ?_
  exact mX_freeSlot_loop C hx hret 14 0 (by omega) (fun t ht => absurd ht (Nat.not_lt_zero _))
theorem mX_baseFor_loop (C : jw_C E cX0_baseFor 3 RX0 (tX cA) 0) (hr : xr_R G lc o bs en pr ct dy pn tc tk lm) {a : Nat} (hret : ∀ pc lv v w', decode cX0_baseFor pc = .ok (.ireturn, 1) → ((∃ x, v = jp_o x ∧ (x = none ∨ ∃ q, q < jg_n G ∧ x = some (o q))) ∧ w' = (wX h ad cA lc o bs en pr ct dy pn tc tk kp lm (jg_n G) (jg_td G))) → jw_J E 3 w' pc lv [.int v]) : ∀ p, p < jg_n G → jw_J E 3 (wX h ad cA lc o bs en pr ct dy pn tc tk kp lm (jg_n G) (jg_td G)) 25 [(0, .ref h), (1, .int (nI a)), (2, .int (nI p))] [] := by
  intro p
  have hn := xr_n hr
  induction p with
  | zero =>
    intro hp
    refine jr_iload_n (pc := 25) C dX0_baseFor_25 rfl ?_
    refine jr_if_leN (tgt := 50) (pc := 26) C dX0_baseFor_26 (by decide) (by omega) (fun c_26 => ?_) (fun c_26 => ?_)
    · refine jr_aload_n (pc := 50) C dX0_baseFor_50 rfl ?_
      refine jx_g_o (pc := 51) C dX0_baseFor_51 ?_
      refine jr_iload_n (pc := 54) C dX0_baseFor_54 rfl ?_
      refine jx_l_o (pc := 55) C (by omega) dX0_baseFor_55 ?_
      exact hret _ _ _ _ dX0_baseFor_56 ⟨⟨some (o 0), rfl, Or.inr ⟨0, by omega, rfl⟩⟩, rfl⟩
    · exfalso; omega
  | succ p ih =>
    intro hp
    have hop := xr_o hr hp
    refine jr_iload_n (pc := 25) C dX0_baseFor_25 rfl ?_
    refine jr_if_leN (tgt := 50) (pc := 26) C dX0_baseFor_26 (by decide) (by omega) (fun c_26 => ?_) (fun c_26 => ?_)
    · exfalso; omega
    · refine jr_aload_n (pc := 29) C dX0_baseFor_29 rfl ?_
      refine jx_g_bs (pc := 30) C dX0_baseFor_30 ?_
      refine jr_aload_n (pc := 33) C dX0_baseFor_33 rfl ?_
      refine jx_g_o (pc := 34) C dX0_baseFor_34 ?_
      refine jr_iload_n (pc := 37) C dX0_baseFor_37 rfl ?_
      refine jx_l_o (pc := 38) C (by omega) dX0_baseFor_38 ?_
      refine jx_l_bs (pc := 39) C (by omega) dX0_baseFor_39 ?_
      refine jr_iconst (pc := 40) (v := (-1)) C dX0_baseFor_40 (by decide) ?_
      refine jr_icmp_eqO (tgt := 50) (pc := 41) C dX0_baseFor_41 (by decide) (xr_bl hr hp) (fun c_41 => ?_) (fun c_41 => ?_)
      · refine jr_aload_n (pc := 50) C dX0_baseFor_50 rfl ?_
        refine jx_g_o (pc := 51) C dX0_baseFor_51 ?_
        refine jr_iload_n (pc := 54) C dX0_baseFor_54 rfl ?_
        refine jx_l_o (pc := 55) C (by omega) dX0_baseFor_55 ?_
        exact hret _ _ _ _ dX0_baseFor_56 ⟨⟨some (o (p + 1)), rfl, Or.inr ⟨p + 1, by omega, rfl⟩⟩, rfl⟩
      · refine jr_dec (pc := 44) C dX0_baseFor_44 rfl (by decide) rfl ?_
        refine jr_goto (tgt := 25) (pc := 47) C dX0_baseFor_47 (by decide) ?_
        exact ih (by omega)
/-- baseFor(way): none, or the slot of a point -/
theorem mX_baseFor (hr : xr_R G lc o bs en pr ct dy pn tc tk lm) {a : Nat} (ha : a < 3) : jw_Mi yX0_baseFor cX0_baseFor 3 (some .int) 0 D (tX cA) [.ref h, .int (nI a)] (wX h ad cA lc o bs en pr ct dy pn tc tk kp lm (jg_n G) (jg_td G)) (fun v w' => (∃ x, v = jp_o x ∧ (x = none ∨ ∃ q, q < jg_n G ∧ x = some (o q))) ∧ w' = (wX h ad cA lc o bs en pr ct dy pn tc tk kp lm (jg_n G) (jg_td G))) := by
  refine jw_Mi.of (own := RX0) (by decide) rfl (Nat.le_of_ble_eq_true rfl) (fun _ _ _ => rfl) ?_
  intro E hE C hret
  subst hE
  show jw_J E 3 _ 0 [(0, .ref h), (1, .int (nI a))] []
  have hn := xr_n hr
  refine jr_iload_n (pc := 0) C dX0_baseFor_0 rfl ?_
  refine jr_if_eqN (tgt := 11) (pc := 1) C dX0_baseFor_1 (by decide) (by omega) (fun c_1 => ?_) (fun c_1 => ?_)
  · refine jr_iconst (pc := 11) (v := (-1)) C dX0_baseFor_11 (by decide) ?_
    exact hret _ _ _ _ dX0_baseFor_12 ⟨⟨none, rfl, Or.inl rfl⟩, rfl⟩
  · refine jr_aload_n (pc := 4) C dX0_baseFor_4 rfl ?_
    refine jx_g_n (pc := 5) C dX0_baseFor_5 ?_
    refine jr_if_neN (tgt := 13) (pc := 8) C dX0_baseFor_8 (by decide) (by omega) (fun c_8 => ?_) (fun c_8 => ?_)
    · refine jr_aload_n (pc := 13) C dX0_baseFor_13 rfl ?_
      refine jx_g_n (pc := 14) C dX0_baseFor_14 ?_
      refine jr_iconst (pc := 17) (v := nI 1) C dX0_baseFor_17 (by decide) ?_
      refine jr_isubN (pc := 18) C dX0_baseFor_18 (by omega) ?_
      refine jr_istore_n (pc := 19) C dX0_baseFor_19 (by decide) rfl ?_
      refine jr_iload_n (pc := 20) C dX0_baseFor_20 rfl ?_
      refine jr_iconst (pc := 21) (v := nI 2) C dX0_baseFor_21 (by decide) ?_
      refine jr_icmp_neN (tgt := 50) (pc := 22) C dX0_baseFor_22 (by decide) (by omega) (by omega) (fun c_22 => ?_) (fun c_22 => ?_)
      · refine jr_aload_n (pc := 50) C dX0_baseFor_50 rfl ?_
        refine jx_g_o (pc := 51) C dX0_baseFor_51 ?_
        refine jr_iload_n (pc := 54) C dX0_baseFor_54 rfl ?_
        refine jx_l_o (pc := 55) C (by omega) dX0_baseFor_55 ?_
        exact hret _ _ _ _ dX0_baseFor_56 ⟨⟨some (o (jg_n G - 1)), rfl, Or.inr ⟨jg_n G - 1, by omega, rfl⟩⟩, rfl⟩
      · exact mX_baseFor_loop C hr hret (jg_n G - 1) (by omega)
    · refine jr_iconst (pc := 11) (v := (-1)) C dX0_baseFor_11 (by decide) ?_
      exact hret _ _ _ _ dX0_baseFor_12 ⟨⟨none, rfl, Or.inl rfl⟩, rfl⟩
theorem mX_take_loop (C : jw_C E cX0_take 5 RX0 (tX cA) 1) {s : Nat} (hs : s < 14) {a u : Int32} (ct0 : Nat → Int32) (kk : ∀ ct : Nat → Int32, (∀ f, f < 16 → ct (16 * s + f) = if bt (en s) f = true then lc f else 0) → (∀ i, (∀ f, f < 16 → i ≠ 16 * s + f) → ct i = ct0 i) → jw_J E 5 (wX h ad cA lc o bs en pr ct dy pn tc tk kp lm n td) 133 [(0, .ref h), (1, .int a), (2, .int (nI s)), (3, .int u), (4, .int (nI 16))] []) : ∀ (k f : Nat) (ct : Nat → Int32), f + k = 16 → (∀ g, g < f → ct (16 * s + g) = if bt (en s) g = true then lc g else 0) → (∀ i, (∀ g, g < f → i ≠ 16 * s + g) → ct i = ct0 i) → jw_J E 5 (wX h ad cA lc o bs en pr ct dy pn tc tk kp lm n td) 83 [(0, .ref h), (1, .int a), (2, .int (nI s)), (3, .int u), (4, .int (nI f))] [] := by
  intro k
  induction k with
  | zero =>
    intro f ct hf h1 h2
    have e16 : f = 16 := by omega
    subst e16
    refine jr_iload (pc := 83) C dX0_take_83 rfl ?_
    refine jr_bipush (pc := 85) (v := nI 16) C dX0_take_85 (by decide) ?_
    refine jr_icmp_geN (tgt := 133) (pc := 87) C dX0_take_87 (by decide) (by omega) (by omega) (fun c_87 => ?_) (fun c_87 => ?_)
    · exact kk ct h1 h2
    · exfalso; omega
  | succ k ih =>
    intro f ct hf h1 h2
    refine jr_iload (pc := 83) C dX0_take_83 rfl ?_
    refine jr_bipush (pc := 85) (v := nI 16) C dX0_take_85 (by decide) ?_
    refine jr_icmp_geN (tgt := 133) (pc := 87) C dX0_take_87 (by decide) (by omega) (by omega) (fun c_87 => ?_) (fun c_87 => ?_)
    · exfalso; omega
    · refine jr_aload_n (pc := 90) C dX0_take_90 rfl ?_
      refine jx_g_ct (pc := 91) C dX0_take_91 ?_
      refine jr_bipush (pc := 94) (v := nI 16) C dX0_take_94 (by decide) ?_
      refine jr_iload_n (pc := 96) C dX0_take_96 rfl ?_
      refine jr_imulN (pc := 97) C dX0_take_97 ?_
      refine jr_iload (pc := 98) C dX0_take_98 rfl ?_
      refine jr_iaddN (pc := 100) C dX0_take_100 ?_
      refine jr_aload_n (pc := 101) C dX0_take_101 rfl ?_
      refine jx_g_en (pc := 102) C dX0_take_102 ?_
      refine jr_iload_n (pc := 105) C dX0_take_105 rfl ?_
      refine jx_l_en (pc := 106) C (by omega) dX0_take_106 ?_
      refine jr_iload (pc := 107) C dX0_take_107 rfl ?_
      refine jr_calls (pc := 109) C gw_X0_59 ok_X0_has (mX_has _ (by omega)) rfl (by decide) (by decide) dX0_take_109 rfl (Nat.le_of_ble_eq_true rfl) ?_
      rintro _ _ ⟨rfl, rfl⟩
      refine jr_if_eqB (tgt := 125) (pc := 112) C dX0_take_112 (by decide) (fun c_112 => ?_) (fun c_112 => ?_)
      · refine jr_iconst (pc := 125) (v := nI 0) C dX0_take_125 (by decide) ?_
        refine jr_top (show _ = if bt (en s) f = true then lc f else 0 from by rw [c_112]; rfl) ?_
        refine jx_s_ct (pc := 126) C (by omega) dX0_take_126 ?_
        refine jr_inc (pc := 127) C dX0_take_127 rfl (by decide) rfl ?_
        refine jr_goto (tgt := 83) (pc := 130) C dX0_take_130 (by decide) ?_
        refine ih (f + 1) _ (by omega) (fun g hg => ?_) (fun i hi => ?_)
        · by_cases e : g = f
          · rw [e, jp_us]
          · rw [jp_un (by omega)]; exact h1 g (by omega)
        · rw [jp_un (hi f (Nat.lt_succ_self _))]
          exact h2 i (fun g hg => hi g (by omega))
      · refine jr_aload_n (pc := 115) C dX0_take_115 rfl ?_
        refine jx_g_lc (pc := 116) C dX0_take_116 ?_
        refine jr_iload (pc := 119) C dX0_take_119 rfl ?_
        refine jx_l_lc (pc := 121) C (by omega) dX0_take_121 ?_
        refine jr_goto (tgt := 126) (pc := 122) C dX0_take_122 (by decide) ?_
        refine jr_top (show _ = if bt (en s) f = true then lc f else 0 from by rw [c_112]; rfl) ?_
        refine jx_s_ct (pc := 126) C (by omega) dX0_take_126 ?_
        refine jr_inc (pc := 127) C dX0_take_127 rfl (by decide) rfl ?_
        refine jr_goto (tgt := 83) (pc := 130) C dX0_take_130 (by decide) ?_
        refine ih (f + 1) _ (by omega) (fun g hg => ?_) (fun i hi => ?_)
        · by_cases e : g = f
          · rw [e, jp_us]
          · rw [jp_un (by omega)]; exact h1 g (by omega)
        · rw [jp_un (hi f (Nat.lt_succ_self _))]
          exact h2 i (fun g hg => hi g (by omega))
theorem mX_take_mid (C : jw_C E cX0_take 5 RX0 (tX cA) 1) (hr : xr_R G lc o bs en pr ct dy pn tc tk lm) (hn : jg_n G < 14) {s : Nat} (hs : s < 14) (hts : tk s = false) {a : Int32} {x : Option Nat} (hx : x = none ∨ ∃ q, q < jg_n G ∧ x = some (o q)) (hret : ∀ pc lv v w', decode cX0_take pc = .ok (.ireturn, 1) → (v = nI (jg_n G) ∧ xw_R h ad cA (jg_lv G, jg_n G + 1, va_up (jg_V G) (jg_n G) (jg_lv G), va_up (jg_dv G) (jg_n G) (jg_td G), va_up (jg_pv G) (jg_n G) false, jg_td G) w') → jw_J E 5 w' pc lv [.int v]) : jw_J E 5 (wX h ad cA lc o bs en pr ct dy pn tc tk kp lm (jg_n G) (jg_td G)) 33 [(0, .ref h), (1, .int a), (2, .int (nI s))] [.int (jp_o x)] := by
  rcases hx with rfl | ⟨q, hq, rfl⟩
  · refine jr_istore_n (pc := 33) C dX0_take_33 (by decide) rfl ?_
    refine jr_aload_n (pc := 34) C dX0_take_34 rfl ?_
    refine jx_g_bs (pc := 35) C dX0_take_35 ?_
    refine jr_iload_n (pc := 38) C dX0_take_38 rfl ?_
    refine jr_iload_n (pc := 39) C dX0_take_39 rfl ?_
    refine jx_s_bs (pc := 40) C (by omega) dX0_take_40 ?_
    refine jr_aload_n (pc := 41) C dX0_take_41 rfl ?_
    refine jx_g_en (pc := 42) C dX0_take_42 ?_
    refine jr_iload_n (pc := 45) C dX0_take_45 rfl ?_
    refine jr_iload_n (pc := 46) C dX0_take_46 rfl ?_
    refine jr_iconst (pc := 47) (v := (-1)) C dX0_take_47 (by decide) ?_
    refine jr_icmp_neO (tgt := 56) (pc := 48) C dX0_take_48 (by decide) (by intro k hk; cases hk) (fun c_48 => ?_) (fun c_48 => ?_)
    · exact absurd rfl c_48
    · refine jr_ldc (pc := 51) C q116 dX0_take_51 ?_
      refine jr_goto (tgt := 62) (pc := 53) C dX0_take_53 (by decide) ?_
      refine jx_s_en (pc := 62) C (by omega) dX0_take_62 ?_
      refine jr_aload_n (pc := 63) C dX0_take_63 rfl ?_
      refine jx_g_pr (pc := 64) C dX0_take_64 ?_
      refine jr_iload_n (pc := 67) C dX0_take_67 rfl ?_
      refine jr_aload_n (pc := 68) C dX0_take_68 rfl ?_
      refine jx_g_lm (pc := 69) C dX0_take_69 ?_
      refine jr_aload_n (pc := 72) C dX0_take_72 rfl ?_
      refine jx_g_en (pc := 73) C dX0_take_73 ?_
      refine jr_iload_n (pc := 76) C dX0_take_76 rfl ?_
      refine jx_l_en (pc := 77) C (by omega) dX0_take_77 ?_
      refine jr_top jp_us ?_
      refine jr_iand (pc := 78) C dX0_take_78 ?_
      refine jx_s_pr (pc := 79) C (by omega) dX0_take_79 ?_
      refine jr_iconst (pc := 80) (v := nI 0) C dX0_take_80 (by decide) ?_
      refine jr_istore (pc := 81) C dX0_take_81 (by decide) rfl ?_
      refine mX_take_loop C hs ct (fun ct' h1 h2 => ?_) 16 0 ct (by omega) (fun g hg => absurd hg (Nat.not_lt_zero _)) (fun i hi => rfl)
      refine jr_aload_n (pc := 133) C dX0_take_133 rfl ?_
      refine jx_g_dy (pc := 134) C dX0_take_134 ?_
      refine jr_iload_n (pc := 137) C dX0_take_137 rfl ?_
      refine jr_aload_n (pc := 138) C dX0_take_138 rfl ?_
      refine jx_g_td (pc := 139) C dX0_take_139 ?_
      refine jx_s_dy (pc := 142) C (by omega) dX0_take_142 ?_
      refine jr_aload_n (pc := 143) C dX0_take_143 rfl ?_
      refine jx_g_pn (pc := 144) C dX0_take_144 ?_
      refine jr_iload_n (pc := 147) C dX0_take_147 rfl ?_
      refine jr_iconst (pc := 148) (v := nI 0) C dX0_take_148 (by decide) ?_
      refine jr_top (show nI 0 = jp_b false from by decide) ?_
      refine jx_s_pn (pc := 149) C (by omega) dX0_take_149 ?_
      refine jr_aload_n (pc := 150) C dX0_take_150 rfl ?_
      refine jx_g_tc (pc := 151) C dX0_take_151 ?_
      refine jr_iload_n (pc := 154) C dX0_take_154 rfl ?_
      refine jr_iconst (pc := 155) (v := nI 0) C dX0_take_155 (by decide) ?_
      refine jx_s_tc (pc := 156) C (by omega) dX0_take_156 ?_
      refine jr_aload_n (pc := 157) C dX0_take_157 rfl ?_
      refine jx_g_tk (pc := 158) C dX0_take_158 ?_
      refine jr_iload_n (pc := 161) C dX0_take_161 rfl ?_
      refine jr_iconst (pc := 162) (v := nI 1) C dX0_take_162 (by decide) ?_
      refine jr_top (show nI 1 = jp_b true from by decide) ?_
      refine jx_s_tk (pc := 163) C (by omega) dX0_take_163 ?_
      refine jr_aload_n (pc := 164) C dX0_take_164 rfl ?_
      refine jx_g_o (pc := 165) C dX0_take_165 ?_
      refine jr_aload_n (pc := 168) C dX0_take_168 rfl ?_
      refine jx_g_n (pc := 169) C dX0_take_169 ?_
      refine jr_iload_n (pc := 172) C dX0_take_172 rfl ?_
      refine jx_s_o (pc := 173) C (by omega) dX0_take_173 ?_
      refine jr_aload_n (pc := 174) C dX0_take_174 rfl ?_
      refine jr_dup (pc := 175) C dX0_take_175 rfl ?_
      refine jx_g_n (pc := 176) C dX0_take_176 ?_
      refine jr_iconst (pc := 179) (v := nI 1) C dX0_take_179 (by decide) ?_
      refine jr_iaddN (pc := 180) C dX0_take_180 ?_
      refine jx_p_n (pc := 181) C dX0_take_181 ?_
      refine jr_aload_n (pc := 184) C dX0_take_184 rfl ?_
      refine jx_g_n (pc := 185) C dX0_take_185 ?_
      refine jr_iconst (pc := 188) (v := nI 1) C dX0_take_188 (by decide) ?_
      refine jr_isubN (pc := 189) C dX0_take_189 (by omega) ?_
      refine hret _ _ _ _ dX0_take_190 ?_
      refine ⟨rfl, kp, _, _, _, _, _, _, _, _, _, _, _, rfl, xr_take hr hs hts hn (Or.inl ⟨rfl, fun f hf => by rw [b_65535, decide_eq_true hf]⟩) (fun f hf => ?_) h2⟩
      rw [h1 f hf, jp_us]
  · have hoq := xr_o hr hq
    refine jr_top (show jp_o (some (o q)) = nI (o q) from rfl) ?_
    refine jr_istore_n (pc := 33) C dX0_take_33 (by decide) rfl ?_
    refine jr_aload_n (pc := 34) C dX0_take_34 rfl ?_
    refine jx_g_bs (pc := 35) C dX0_take_35 ?_
    refine jr_iload_n (pc := 38) C dX0_take_38 rfl ?_
    refine jr_iload_n (pc := 39) C dX0_take_39 rfl ?_
    refine jr_top (show nI _ = jp_o (some _) from rfl) ?_
    refine jx_s_bs (pc := 40) C (by omega) dX0_take_40 ?_
    refine jr_aload_n (pc := 41) C dX0_take_41 rfl ?_
    refine jx_g_en (pc := 42) C dX0_take_42 ?_
    refine jr_iload_n (pc := 45) C dX0_take_45 rfl ?_
    refine jr_iload_n (pc := 46) C dX0_take_46 rfl ?_
    refine jr_iconst (pc := 47) (v := (-1)) C dX0_take_47 (by decide) ?_
    refine jr_icmp_ne (tgt := 56) (pc := 48) C dX0_take_48 (by decide) (fun c_48 => ?_) (fun c_48 => ?_)
    · refine jr_aload_n (pc := 56) C dX0_take_56 rfl ?_
      refine jx_g_tc (pc := 57) C dX0_take_57 ?_
      refine jr_iload_n (pc := 60) C dX0_take_60 rfl ?_
      refine jx_l_tc (pc := 61) C (by omega) dX0_take_61 ?_
      refine jx_s_en (pc := 62) C (by omega) dX0_take_62 ?_
      refine jr_aload_n (pc := 63) C dX0_take_63 rfl ?_
      refine jx_g_pr (pc := 64) C dX0_take_64 ?_
      refine jr_iload_n (pc := 67) C dX0_take_67 rfl ?_
      refine jr_aload_n (pc := 68) C dX0_take_68 rfl ?_
      refine jx_g_lm (pc := 69) C dX0_take_69 ?_
      refine jr_aload_n (pc := 72) C dX0_take_72 rfl ?_
      refine jx_g_en (pc := 73) C dX0_take_73 ?_
      refine jr_iload_n (pc := 76) C dX0_take_76 rfl ?_
      refine jx_l_en (pc := 77) C (by omega) dX0_take_77 ?_
      refine jr_top jp_us ?_
      refine jr_iand (pc := 78) C dX0_take_78 ?_
      refine jx_s_pr (pc := 79) C (by omega) dX0_take_79 ?_
      refine jr_iconst (pc := 80) (v := nI 0) C dX0_take_80 (by decide) ?_
      refine jr_istore (pc := 81) C dX0_take_81 (by decide) rfl ?_
      refine mX_take_loop C hs ct (fun ct' h1 h2 => ?_) 16 0 ct (by omega) (fun g hg => absurd hg (Nat.not_lt_zero _)) (fun i hi => rfl)
      refine jr_aload_n (pc := 133) C dX0_take_133 rfl ?_
      refine jx_g_dy (pc := 134) C dX0_take_134 ?_
      refine jr_iload_n (pc := 137) C dX0_take_137 rfl ?_
      refine jr_aload_n (pc := 138) C dX0_take_138 rfl ?_
      refine jx_g_td (pc := 139) C dX0_take_139 ?_
      refine jx_s_dy (pc := 142) C (by omega) dX0_take_142 ?_
      refine jr_aload_n (pc := 143) C dX0_take_143 rfl ?_
      refine jx_g_pn (pc := 144) C dX0_take_144 ?_
      refine jr_iload_n (pc := 147) C dX0_take_147 rfl ?_
      refine jr_iconst (pc := 148) (v := nI 0) C dX0_take_148 (by decide) ?_
      refine jr_top (show nI 0 = jp_b false from by decide) ?_
      refine jx_s_pn (pc := 149) C (by omega) dX0_take_149 ?_
      refine jr_aload_n (pc := 150) C dX0_take_150 rfl ?_
      refine jx_g_tc (pc := 151) C dX0_take_151 ?_
      refine jr_iload_n (pc := 154) C dX0_take_154 rfl ?_
      refine jr_iconst (pc := 155) (v := nI 0) C dX0_take_155 (by decide) ?_
      refine jx_s_tc (pc := 156) C (by omega) dX0_take_156 ?_
      refine jr_aload_n (pc := 157) C dX0_take_157 rfl ?_
      refine jx_g_tk (pc := 158) C dX0_take_158 ?_
      refine jr_iload_n (pc := 161) C dX0_take_161 rfl ?_
      refine jr_iconst (pc := 162) (v := nI 1) C dX0_take_162 (by decide) ?_
      refine jr_top (show nI 1 = jp_b true from by decide) ?_
      refine jx_s_tk (pc := 163) C (by omega) dX0_take_163 ?_
      refine jr_aload_n (pc := 164) C dX0_take_164 rfl ?_
      refine jx_g_o (pc := 165) C dX0_take_165 ?_
      refine jr_aload_n (pc := 168) C dX0_take_168 rfl ?_
      refine jx_g_n (pc := 169) C dX0_take_169 ?_
      refine jr_iload_n (pc := 172) C dX0_take_172 rfl ?_
      refine jx_s_o (pc := 173) C (by omega) dX0_take_173 ?_
      refine jr_aload_n (pc := 174) C dX0_take_174 rfl ?_
      refine jr_dup (pc := 175) C dX0_take_175 rfl ?_
      refine jx_g_n (pc := 176) C dX0_take_176 ?_
      refine jr_iconst (pc := 179) (v := nI 1) C dX0_take_179 (by decide) ?_
      refine jr_iaddN (pc := 180) C dX0_take_180 ?_
      refine jx_p_n (pc := 181) C dX0_take_181 ?_
      refine jr_aload_n (pc := 184) C dX0_take_184 rfl ?_
      refine jx_g_n (pc := 185) C dX0_take_185 ?_
      refine jr_iconst (pc := 188) (v := nI 1) C dX0_take_188 (by decide) ?_
      refine jr_isubN (pc := 189) C dX0_take_189 (by omega) ?_
      refine hret _ _ _ _ dX0_take_190 ?_
      refine ⟨rfl, kp, _, _, _, _, _, _, _, _, _, _, _, rfl, xr_take hr hs hts hn (Or.inr ⟨q, hq, rfl, rfl⟩) (fun f hf => ?_) h2⟩
      rw [h1 f hf, jp_us]
    · exact absurd c_48 (jp_m1 (by omega))
/-- take(way) -/
theorem mX_take (hr : xr_R G lc o bs en pr ct dy pn tc tk lm) (a : Int32) : jw_Mi yX0_take cX0_take 5 (some .int) 1 D (tX cA) [.ref h, .int a] (wX h ad cA lc o bs en pr ct dy pn tc tk kp lm (jg_n G) (jg_td G)) (fun r w' => r = (sp_take a G).1 ∧ xw_R h ad cA (sp_take a G).2 w') := by
  have hn := xr_n hr
  cases hq : jp_ix a 3 with
  | none =>
    rw [show sp_take a G = (-1, G) from by simp only [sp_take, hq]]
    refine jw_Mi.of (own := RX0) (by decide) rfl (Nat.le_of_ble_eq_true rfl) (fun _ _ _ => rfl) ?_
    intro E hE C hret
    subst hE
    show jw_J E 5 _ 0 [(0, .ref h), (1, .int a)] []
    refine jr_iload_n (pc := 0) C dX0_take_0 rfl ?_
    refine jr_if_lt (tgt := 9) (pc := 1) C dX0_take_1 (by decide) (fun c_1 => ?_) (fun c_1 => ?_)
    · refine jr_iconst (pc := 9) (v := (-1)) C dX0_take_9 (by decide) ?_
      exact hret _ _ _ _ dX0_take_10 ⟨rfl, xw_in hr⟩
    · refine jr_iload_n (pc := 4) C dX0_take_4 rfl ?_
      refine jr_iconst (pc := 5) (v := nI 2) C dX0_take_5 (by decide) ?_
      refine jr_icmp_le (tgt := 11) (pc := 6) C dX0_take_6 (by decide) (fun c_6 => ?_) (fun c_6 => ?_)
      · exact absurd c_6 (fun q => jp_ix_abs (m := 2) rfl (by omega) hq c_1 q)
      · refine jr_iconst (pc := 9) (v := (-1)) C dX0_take_9 (by decide) ?_
        exact hret _ _ _ _ dX0_take_10 ⟨rfl, xw_in hr⟩
  | some k =>
    obtain ⟨hk, rfl⟩ := jp_ix_some hq
    by_cases h14 : jg_n G = 14
    · rw [show sp_take (nI k) G = (-2, G) from by simp only [sp_take, hq, if_pos h14]]
      refine jw_Mi.of (own := RX0) (by decide) rfl (Nat.le_of_ble_eq_true rfl) (fun _ _ _ => rfl) ?_
      intro E hE C hret
      subst hE
      show jw_J E 5 _ 0 [(0, .ref h), (1, .int (nI k))] []
      refine jr_iload_n (pc := 0) C dX0_take_0 rfl ?_
      refine jr_if_ltN (tgt := 9) (pc := 1) C dX0_take_1 (by decide) (by omega) ?_
      refine jr_iload_n (pc := 4) C dX0_take_4 rfl ?_
      refine jr_iconst (pc := 5) (v := nI 2) C dX0_take_5 (by decide) ?_
      refine jr_icmp_leN (tgt := 11) (pc := 6) C dX0_take_6 (by decide) (by omega) (by omega) (fun c_6 => ?_) (fun c_6 => ?_)
      · refine jr_aload_n (pc := 11) C dX0_take_11 rfl ?_
        refine jx_g_n (pc := 12) C dX0_take_12 ?_
        refine jr_bipush (pc := 15) (v := nI 14) C dX0_take_15 (by decide) ?_
        refine jr_icmp_neN (tgt := 23) (pc := 17) C dX0_take_17 (by decide) (by omega) (by omega) (fun c_17 => ?_) (fun c_17 => ?_)
        · exact absurd h14 c_17
        · refine jr_bipush (pc := 20) (v := (-2)) C dX0_take_20 (by decide) ?_
          exact hret _ _ _ _ dX0_take_22 ⟨rfl, xw_in hr⟩
      · exfalso; omega
    · rw [show sp_take (nI k) G = (nI (jg_n G), (jg_lv G, jg_n G + 1, va_up (jg_V G) (jg_n G) (jg_lv G), va_up (jg_dv G) (jg_n G) (jg_td G), va_up (jg_pv G) (jg_n G) false, jg_td G)) from by simp only [sp_take, hq, if_neg h14]]
      refine jw_Mi.of (own := RX0) (by decide) rfl (Nat.le_of_ble_eq_true rfl) (fun _ _ _ => rfl) ?_
      intro E hE C hret
      subst hE
      show jw_J E 5 _ 0 [(0, .ref h), (1, .int (nI k))] []
      refine jr_iload_n (pc := 0) C dX0_take_0 rfl ?_
      refine jr_if_ltN (tgt := 9) (pc := 1) C dX0_take_1 (by decide) (by omega) ?_
      refine jr_iload_n (pc := 4) C dX0_take_4 rfl ?_
      refine jr_iconst (pc := 5) (v := nI 2) C dX0_take_5 (by decide) ?_
      refine jr_icmp_leN (tgt := 11) (pc := 6) C dX0_take_6 (by decide) (by omega) (by omega) (fun c_6 => ?_) (fun c_6 => ?_)
      · refine jr_aload_n (pc := 11) C dX0_take_11 rfl ?_
        refine jx_g_n (pc := 12) C dX0_take_12 ?_
        refine jr_bipush (pc := 15) (v := nI 14) C dX0_take_15 (by decide) ?_
        refine jr_icmp_neN (tgt := 23) (pc := 17) C dX0_take_17 (by decide) (by omega) (by omega) (fun c_17 => ?_) (fun c_17 => ?_)
        · refine jr_aload_n (pc := 23) C dX0_take_23 rfl ?_
          refine jr_calli (pc := 24) C gw_X0_66 ok_X0_freeSlot (mX_freeSlot (xr_free hr (by omega))) rfl (by decide) (by decide) rfl rfl dX0_take_24 rfl (Nat.le_of_ble_eq_true rfl) ?_
          rintro _ _ ⟨⟨s, hs, hts, rfl⟩, rfl⟩
          refine jr_istore_n (pc := 27) C dX0_take_27 (by decide) rfl ?_
          refine jr_aload_n (pc := 28) C dX0_take_28 rfl ?_
          refine jr_iload_n (pc := 29) C dX0_take_29 rfl ?_
          refine jr_calli (pc := 30) C gw_X0_70 ok_X0_baseFor (mX_baseFor hr hk) rfl (by decide) (by decide) rfl rfl dX0_take_30 rfl (Nat.le_of_ble_eq_true rfl) ?_
          rintro _ _ ⟨⟨x, rfl, hx⟩, rfl⟩
          exact mX_take_mid C hr (by omega) hs hts hx hret
        · exact absurd c_17 h14
      · exfalso; omega
end
end
section
/-! the component: drop, forget -/
set_option maxRecDepth 100000
/-- the old place of what now stands at q, when p has gone -/
def xr_ix (p q : Nat) : Nat := if q < p then q else q + 1
theorem xr_ix_sh {α : Type} {f : Nat → α} {p q : Nat} : jp_sh f p q = f (xr_ix p q) := by unfold jp_sh xr_ix; split <;> rfl
theorem xr_ix_ne {p q : Nat} : xr_ix p q ≠ p := by unfold xr_ix; split <;> omega
theorem xr_ix_lt {p q n : Nat} (hq : q < n - 1) : xr_ix p q < n := by unfold xr_ix; split <;> omega
theorem xr_ix_mono {p a b : Nat} (h : xr_ix p a < xr_ix p b) : a < b := by
  unfold xr_ix at h
  split at h <;> split at h <;> omega
theorem xr_ix_le {p a b : Nat} (h : a ≤ b) : xr_ix p a ≤ xr_ix p b := by
  unfold xr_ix
  split <;> split <;> omega
theorem xr_ix_inj {p a b : Nat} (h : xr_ix p a = xr_ix p b) : a = b := by
  unfold xr_ix at h
  split at h <;> split at h <;> omega
theorem xr_ix_inv {p i n : Nat} (hp : p < n) (hi : i < n) (h : i ≠ p) : ∃ j, j < n - 1 ∧ xr_ix p j = i := by
  by_cases c : i < p
  · exact ⟨i, by omega, by unfold xr_ix; rw [if_pos c]⟩
  · exact ⟨i - 1, by omega, by unfold xr_ix; rw [if_neg (by omega)]; omega⟩
/-- how far drop's loop has come: the slots below t that rest on s have what it had -/
def xd_I (s : Nat) (tk : Nat → Bool) (bs : Nat → Option Nat) (en pr ct : Nat → Int32) (t : Nat) (bs' : Nat → Option Nat) (en' pr' ct' : Nat → Int32) : Prop :=
  ∀ u, u < 14 → ((u < t ∧ tk u = true ∧ bs u = some s) → (bs' u = bs s ∧ en' u = en u ||| en s ∧ pr' u = pr u ||| (pr s &&& (en s &&& (en u ^^^ (-1)))) ∧ ∀ f, f < 16 → ct' (16 * u + f) = if bt (en s &&& (en u ^^^ (-1))) f = true then ct (16 * s + f) else ct (16 * u + f))) ∧ (¬ (u < t ∧ tk u = true ∧ bs u = some s) → (bs' u = bs u ∧ en' u = en u ∧ pr' u = pr u ∧ ∀ f, f < 16 → ct' (16 * u + f) = ct (16 * u + f)))
section
variable {s : Nat} {tk : Nat → Bool} {bs bs' : Nat → Option Nat} {en pr ct en' pr' ct' ct2 : Nat → Int32} {t : Nat}
theorem xd_0 : xd_I s tk bs en pr ct 0 bs en pr ct := fun u hu => ⟨fun q => absurd q.1 (Nat.not_lt_zero _), fun _ => ⟨rfl, rfl, rfl, fun _ _ => rfl⟩⟩
theorem xd_skip (hI : xd_I s tk bs en pr ct t bs' en' pr' ct') (hn : ¬ (tk t = true ∧ bs t = some s)) : xd_I s tk bs en pr ct (t + 1) bs' en' pr' ct' := by
  intro u hu
  refine ⟨fun q => (hI u hu).1 ⟨?_, q.2⟩, fun q => (hI u hu).2 (fun z => q ⟨by omega, z.2⟩)⟩
  by_cases e : u = t
  · rw [e] at q; exact absurd q.2 hn
  · omega
theorem xd_step (hI : xd_I s tk bs en pr ct t bs' en' pr' ct') (ht : t < 14) (hs : s < 14) (hss : ¬ bs s = some s) (c1 : tk t = true) (c2 : bs' t = some s) (hc1 : ∀ f, f < 16 → ct2 (16 * t + f) = if bt (en' s &&& (en' t ^^^ (-1))) f = true then ct' (16 * s + f) else ct' (16 * t + f)) (hc2 : ∀ i, (∀ f, f < 16 → i ≠ 16 * t + f) → ct2 i = ct' i) : xd_I s tk bs en pr ct (t + 1) (va_up bs' t (bs' s)) (va_up en' t (en' t ||| en' s)) (va_up pr' t (pr' t ||| (pr' s &&& (en' s &&& (en' t ^^^ (-1)))))) ct2 := by
  obtain ⟨s1, s2, s3, s4⟩ := (hI s hs).2 (fun z => hss z.2.2)
  obtain ⟨t1, t2, t3, t4⟩ := (hI t ht).2 (fun z => Nat.lt_irrefl _ z.1)
  intro u hu
  by_cases e : u = t
  · subst e
    refine ⟨fun _ => ⟨by rw [jp_us]; exact s1, by rw [jp_us, t2, s2], by rw [jp_us, t3, s3, s2, t2], fun f hf => ?_⟩, fun q => absurd ⟨Nat.lt_succ_self _, c1, t1.symm.trans c2⟩ q⟩
    rw [hc1 f hf, s2, t2, s4 f hf, t4 f hf]
  · have h2 : ∀ f, f < 16 → ct2 (16 * u + f) = ct' (16 * u + f) := fun f hf => hc2 _ (fun g hg => by omega)
    rw [jp_un e, jp_un e, jp_un e]
    refine ⟨fun q => ?_, fun q => ?_⟩
    · obtain ⟨b1, b2, b3, b4⟩ := (hI u hu).1 ⟨by omega, q.2⟩
      exact ⟨b1, b2, b3, fun f hf => by rw [h2 f hf]; exact b4 f hf⟩
    · obtain ⟨b1, b2, b3, b4⟩ := (hI u hu).2 (fun z => q ⟨by omega, z.2⟩)
      exact ⟨b1, b2, b3, fun f hf => by rw [h2 f hf]; exact b4 f hf⟩
end
section
variable {D : va_G} {E : je_E} {h : Nat} {ad : Nat → Nat} {cA : Nat → ClassId} {tys : List (ClassId × FieldType)} {w : va_W} {lc : Nat → Int32} {o : Nat → Nat} {bs : Nat → Option Nat} {en pr ct : Nat → Int32} {dy : Nat → Nat} {pn : Nat → Bool} {tc : Nat → Int32} {tk kp : Nat → Bool} {lm : Int32} {n td : Nat} {G : jg_G}
theorem xr_drop (hr : xr_R G lc o bs en pr ct dy pn tc tk lm) {p : Nat} (hp : p < jg_n G) {o' : Nat → Nat} {bs' : Nat → Option Nat} {en' pr' ct' : Nat → Int32} (ho : ∀ q, q < jg_n G - 1 → o' q = o (xr_ix p q)) (hI : xd_I (o p) tk bs en pr ct 14 bs' en' pr' ct') : xr_R (jg_rm G p) lc o' bs' en' pr' ct' dy pn tc (va_up tk (o p) false) lm := by
  obtain ⟨a1, a2, a3, a4, a5, a6, a7, a8, a9, a10, a11, a12, a13⟩ := hr
  have hil : ∀ q, q < jg_n G - 1 → xr_ix p q < jg_n G := fun q hq => xr_ix_lt hq
  have hV : ∀ q f, jg_V (jg_rm G p) q f = jg_V G (xr_ix p q) f := fun q f => by show jp_sh (jg_V G) p q f = _; rw [xr_ix_sh]
  have hdv : ∀ q, jg_dv (jg_rm G p) q = jg_dv G (xr_ix p q) := fun q => by show jp_sh (jg_dv G) p q = _; rw [xr_ix_sh]
  have hpv : ∀ q, jg_pv (jg_rm G p) q = jg_pv G (xr_ix p q) := fun q => by show jp_sh (jg_pv G) p q = _; rw [xr_ix_sh]
  have hne : ∀ q, q < jg_n G - 1 → o (xr_ix p q) ≠ o p := fun q hq e => xr_ix_ne (a4 _ _ (hil q hq) hp e)
  have hB : ∀ i, i < jg_n G → bs (o i) = some (o p) → p < i := fun i hi e => by
    rcases a12 i hi with h | ⟨q, hq, h⟩
    · rw [h] at e; cases e
    · rw [h] at e
      have := a4 q p (by omega) hp (Option.some.inj e)
      omega
  have hVp : ∀ i, i < jg_n G → bs (o i) = some (o p) → ∀ f, f < 16 → bt (en (o i)) f = false → jg_V G i f = jg_V G p f := fun i hi e f hf he => by
    obtain ⟨-, q, hq, h1, h2⟩ := a11 i hi f hf he
    rw [h1] at e
    have := a4 q p (by omega) hp (Option.some.inj e)
    rw [h2, this]
  have hyes : ∀ i, i < jg_n G → bs (o i) = some (o p) → _ := fun i hi e => (hI (o i) (a3 i hi)).1 ⟨a3 i hi, a6 i hi, e⟩
  have hno : ∀ i, i < jg_n G → ¬ bs (o i) = some (o p) → _ := fun i hi e => (hI (o i) (a3 i hi)).2 (fun z => e z.2.2)
  have hnew : ∀ i q, q < jg_n G - 1 → i < xr_ix p q → i ≠ p → ∃ j, j < q ∧ o i = o' j ∧ xr_ix p j = i := fun i q hq hi hip => by
    have := hil q hq
    obtain ⟨j, hj, e⟩ := xr_ix_inv hp (show i < jg_n G by omega) hip
    refine ⟨j, xr_ix_mono (p := p) (by rw [e]; exact hi), by rw [ho j hj, e], e⟩
  refine ⟨by show jg_n G - 1 ≤ 14; omega, a2, fun q hq => ?_, fun q r hq hr e => ?_, fun t ht htk => ?_, fun q hq => ?_, fun q hq => ?_, fun q r hqr hr => ?_, a9, fun q hq f hf he => ?_, fun q hq f hf he => ?_, fun q hq => ?_, fun q hq f hf ht => ?_⟩
  · have hq : q < jg_n G - 1 := hq
    rw [ho q hq]; exact a3 _ (hil q hq)
  · have hq : q < jg_n G - 1 := hq
    have hr : r < jg_n G - 1 := hr
    rw [ho q hq, ho r hr] at e
    exact xr_ix_inj (a4 _ _ (hil q hq) (hil r hr) e)
  · by_cases e : t = o p
    · rw [e, jp_us] at htk; cases htk
    · rw [jp_un e] at htk
      obtain ⟨i, hi, ei⟩ := a5 t ht htk
      obtain ⟨j, hj, ej⟩ := xr_ix_inv hp hi (fun z => e (by rw [← ei, z]))
      exact ⟨j, hj, by rw [ho j hj, ej, ei]⟩
  · have hq : q < jg_n G - 1 := hq
    rw [ho q hq, jp_un (hne q hq)]
    exact a6 _ (hil q hq)
  · have hq : q < jg_n G - 1 := hq
    rw [ho q hq, hdv, hpv]
    exact a7 _ (hil q hq)
  · have hr : r < jg_n G - 1 := hr
    rw [hdv, hdv]
    exact a8 _ _ (xr_ix_le hqr) (hil r hr)
  · have hq : q < jg_n G - 1 := hq
    have hi := hil q hq
    rw [hV]
    rw [ho q hq] at he ⊢
    by_cases c : bs (o (xr_ix p q)) = some (o p)
    · obtain ⟨-, b2, b3, b4⟩ := hyes _ hi c
      rw [b2, b_or] at he
      cases h1 : bt (en (o (xr_ix p q))) f with
      | true =>
        have hm : bt (en (o p) &&& (en (o (xr_ix p q)) ^^^ (-1))) f = false := by rw [b_and, jp_not (by omega), h1]; simp
        rw [b4 f hf, if_neg (by rw [hm]; decide), b3, b_or, b_and, hm, Bool.and_false, Bool.or_false]
        exact a10 _ hi f hf h1
      | false =>
        rw [h1, Bool.false_or] at he
        have hm : bt (en (o p) &&& (en (o (xr_ix p q)) ^^^ (-1))) f = true := by rw [b_and, jp_not (by omega), h1, he]; rfl
        rw [b4 f hf, if_pos hm, b3, b_or, b_and, hm, Bool.and_true, (a11 _ hi f hf h1).1, Bool.false_or, hVp _ hi c f hf h1]
        exact a10 p hp f hf he
    · obtain ⟨-, b2, b3, b4⟩ := hno _ hi c
      rw [b2] at he
      rw [b3, b4 f hf]
      exact a10 _ hi f hf he
  · have hq : q < jg_n G - 1 := hq
    have hi := hil q hq
    rw [ho q hq] at he ⊢
    by_cases c : bs (o (xr_ix p q)) = some (o p)
    · obtain ⟨b1, b2, b3, -⟩ := hyes _ hi c
      rw [b2, b_or, Bool.or_eq_false_iff] at he
      obtain ⟨-, i, hip, h1, h2⟩ := a11 p hp f hf he.2
      obtain ⟨j, hj, e1, e2⟩ := hnew i q hq (Nat.lt_trans hip (hB _ hi c)) (by omega)
      refine ⟨by rw [b3, b_or, (a11 _ hi f hf he.1).1, b_and, b_and, he.2]; simp, j, hj, by rw [b1, h1, e1], ?_⟩
      rw [hV, hV, e2, hVp _ hi c f hf he.1, h2]
    · obtain ⟨b1, b2, b3, -⟩ := hno _ hi c
      rw [b2] at he
      obtain ⟨h0, i, hip, h1, h2⟩ := a11 _ hi f hf he
      obtain ⟨j, hj, e1, e2⟩ := hnew i q hq hip (fun z => c (by rw [h1, z]))
      refine ⟨by rw [b3]; exact h0, j, hj, by rw [b1, h1, e1], ?_⟩
      rw [hV, hV, e2, h2]
  · have hq : q < jg_n G - 1 := hq
    have hi := hil q hq
    rw [ho q hq]
    by_cases c : bs (o (xr_ix p q)) = some (o p)
    · obtain ⟨b1, -, -, -⟩ := hyes _ hi c
      rw [b1]
      rcases a12 p hp with h | ⟨i, hip, h⟩
      · exact Or.inl h
      · obtain ⟨j, hj, e1, e2⟩ := hnew i q hq (Nat.lt_trans hip (hB _ hi c)) (by omega)
        exact Or.inr ⟨j, hj, by rw [h, e1]⟩
    · obtain ⟨b1, -, -, -⟩ := hno _ hi c
      rw [b1]
      rcases a12 _ hi with h | ⟨i, hip, h⟩
      · exact Or.inl h
      · obtain ⟨j, hj, e1, e2⟩ := hnew i q hq hip (fun z => c (by rw [h, z]))
        exact Or.inr ⟨j, hj, by rw [h, e1]⟩
  · have hq : q < jg_n G - 1 := hq
    rw [ho q hq] at ht
    rw [hV]
    exact a13 _ (hil q hq) f hf ht
theorem mX_drop_in (C : jw_C E cX0_drop 6 RX0 (tX cA) 1) {s t : Nat} (hs : s < 14) (ht : t < 14) (hst : s ≠ t) {a m : Int32} (ct0 : Nat → Int32) (kk : ∀ ct : Nat → Int32, (∀ f, f < 16 → ct (16 * t + f) = if bt m f = true then ct0 (16 * s + f) else ct0 (16 * t + f)) → (∀ i, (∀ f, f < 16 → i ≠ 16 * t + f) → ct i = ct0 i) → jw_J E 6 (wX h ad cA lc o bs en pr ct dy pn tc tk kp lm n td) 101 [(0, .ref h), (1, .int a), (2, .int (nI s)), (3, .int (nI t)), (4, .int m), (5, .int (nI 16))] []) : ∀ (k f : Nat) (ct : Nat → Int32), f + k = 16 → (∀ g, g < f → ct (16 * t + g) = if bt m g = true then ct0 (16 * s + g) else ct0 (16 * t + g)) → (∀ i, (∀ g, g < f → i ≠ 16 * t + g) → ct i = ct0 i) → jw_J E 6 (wX h ad cA lc o bs en pr ct dy pn tc tk kp lm n td) 54 [(0, .ref h), (1, .int a), (2, .int (nI s)), (3, .int (nI t)), (4, .int m), (5, .int (nI f))] [] := by
  intro k
  induction k with
  | zero =>
    intro f ct hf h1 h2
    have e16 : f = 16 := by omega
    subst e16
    refine jr_iload (pc := 54) C dX0_drop_54 rfl ?_
    refine jr_bipush (pc := 56) (v := nI 16) C dX0_drop_56 (by decide) ?_
    refine jr_icmp_geN (tgt := 101) (pc := 58) C dX0_drop_58 (by decide) (by omega) (by omega) (fun c_58 => ?_) (fun c_58 => ?_)
    · exact kk ct h1 h2
    · exfalso; omega
  | succ k ih =>
    intro f ct hf h1 h2
    have hsf : ct (16 * s + f) = ct0 (16 * s + f) := h2 _ (fun g hg => by omega)
    have htf : ct (16 * t + f) = ct0 (16 * t + f) := h2 _ (fun g hg => by omega)
    refine jr_iload (pc := 54) C dX0_drop_54 rfl ?_
    refine jr_bipush (pc := 56) (v := nI 16) C dX0_drop_56 (by decide) ?_
    refine jr_icmp_geN (tgt := 101) (pc := 58) C dX0_drop_58 (by decide) (by omega) (by omega) (fun c_58 => ?_) (fun c_58 => ?_)
    · exfalso; omega
    · refine jr_iload (pc := 61) C dX0_drop_61 rfl ?_
      refine jr_iload (pc := 63) C dX0_drop_63 rfl ?_
      refine jr_calls (pc := 65) C gw_X0_59 ok_X0_has (mX_has _ (by omega)) rfl (by decide) (by decide) dX0_drop_65 rfl (Nat.le_of_ble_eq_true rfl) ?_
      rintro _ _ ⟨rfl, rfl⟩
      refine jr_if_eqB (tgt := 95) (pc := 68) C dX0_drop_68 (by decide) (fun c_68 => ?_) (fun c_68 => ?_)
      · refine jr_inc (pc := 95) C dX0_drop_95 rfl (by decide) rfl ?_
        refine jr_goto (tgt := 54) (pc := 98) C dX0_drop_98 (by decide) ?_
        refine ih (f + 1) _ (by omega) (fun g hg => ?_) (fun i hi => ?_)
        · by_cases e : g = f
          · rw [e]
            first
              | (rw [if_pos c_68, jp_us]; exact hsf)
              | (rw [if_neg (by rw [c_68]; decide)]; exact htf)
          · first
              | (rw [jp_un (by omega)]; exact h1 g (by omega))
              | exact h1 g (by omega)
        · first
            | (rw [jp_un (hi f (Nat.lt_succ_self _))]; exact h2 i (fun g hg => hi g (by omega)))
            | exact h2 i (fun g hg => hi g (by omega))
      · refine jr_aload_n (pc := 71) C dX0_drop_71 rfl ?_
        refine jx_g_ct (pc := 72) C dX0_drop_72 ?_
        refine jr_bipush (pc := 75) (v := nI 16) C dX0_drop_75 (by decide) ?_
        refine jr_iload_n (pc := 77) C dX0_drop_77 rfl ?_
        refine jr_imulN (pc := 78) C dX0_drop_78 ?_
        refine jr_iload (pc := 79) C dX0_drop_79 rfl ?_
        refine jr_iaddN (pc := 81) C dX0_drop_81 ?_
        refine jr_aload_n (pc := 82) C dX0_drop_82 rfl ?_
        refine jx_g_ct (pc := 83) C dX0_drop_83 ?_
        refine jr_bipush (pc := 86) (v := nI 16) C dX0_drop_86 (by decide) ?_
        refine jr_iload_n (pc := 88) C dX0_drop_88 rfl ?_
        refine jr_imulN (pc := 89) C dX0_drop_89 ?_
        refine jr_iload (pc := 90) C dX0_drop_90 rfl ?_
        refine jr_iaddN (pc := 92) C dX0_drop_92 ?_
        refine jx_l_ct (pc := 93) C (by omega) dX0_drop_93 ?_
        refine jx_s_ct (pc := 94) C (by omega) dX0_drop_94 ?_
        refine jr_inc (pc := 95) C dX0_drop_95 rfl (by decide) rfl ?_
        refine jr_goto (tgt := 54) (pc := 98) C dX0_drop_98 (by decide) ?_
        refine ih (f + 1) _ (by omega) (fun g hg => ?_) (fun i hi => ?_)
        · by_cases e : g = f
          · rw [e]
            first
              | (rw [if_pos c_68, jp_us]; exact hsf)
              | (rw [if_neg (by rw [c_68]; decide)]; exact htf)
          · first
              | (rw [jp_un (by omega)]; exact h1 g (by omega))
              | exact h1 g (by omega)
        · first
            | (rw [jp_un (hi f (Nat.lt_succ_self _))]; exact h2 i (fun g hg => hi g (by omega)))
            | exact h2 i (fun g hg => hi g (by omega))
theorem mX_drop_loop (C : jw_C E cX0_drop 6 RX0 (tX cA) 1) {s : Nat} (hs : s < 14) (hss : ¬ bs s = some s) (hbl : ∀ u, u < 14 → tk u = true → ∀ k, bs u = some k → k < 2 ^ 31) {a : Int32} (kk : ∀ (bs' : Nat → Option Nat) (en' pr' ct' : Nat → Int32), xd_I s tk bs en pr ct 14 bs' en' pr' ct' → jw_J E 6 (wX h ad cA lc o bs' en' pr' ct' dy pn tc tk kp lm n td) 160 [(0, .ref h), (1, .int a), (2, .int (nI s)), (3, .int (nI 14))] []) : ∀ (k t : Nat) (bs' : Nat → Option Nat) (en' pr' ct' : Nat → Int32), t + k = 14 → xd_I s tk bs en pr ct t bs' en' pr' ct' → jw_J E 6 (wX h ad cA lc o bs' en' pr' ct' dy pn tc tk kp lm n td) 9 [(0, .ref h), (1, .int a), (2, .int (nI s)), (3, .int (nI t))] [] := by
  intro k
  induction k with
  | zero =>
    intro t bs' en' pr' ct' ht hI
    have e14 : t = 14 := by omega
    subst e14
    refine jr_iload_n (pc := 9) C dX0_drop_9 rfl ?_
    refine jr_bipush (pc := 10) (v := nI 14) C dX0_drop_10 (by decide) ?_
    refine jr_icmp_geN (tgt := 160) (pc := 12) C dX0_drop_12 (by decide) (by omega) (by omega) (fun c_12 => ?_) (fun c_12 => ?_)
    · exact kk bs' en' pr' ct' hI
    · exfalso; omega
  | succ k ih =>
    intro t bs' en' pr' ct' ht hI
    have ht14 : t < 14 := by omega
    obtain ⟨t1, t2, t3, t4⟩ := (hI t ht14).2 (fun z => Nat.lt_irrefl _ z.1)
    refine jr_iload_n (pc := 9) C dX0_drop_9 rfl ?_
    refine jr_bipush (pc := 10) (v := nI 14) C dX0_drop_10 (by decide) ?_
    refine jr_icmp_geN (tgt := 160) (pc := 12) C dX0_drop_12 (by decide) (by omega) (by omega) (fun c_12 => ?_) (fun c_12 => ?_)
    · exfalso; omega
    · refine jr_aload_n (pc := 15) C dX0_drop_15 rfl ?_
      refine jx_g_tk (pc := 16) C dX0_drop_16 ?_
      refine jr_iload_n (pc := 19) C dX0_drop_19 rfl ?_
      refine jx_l_tk (pc := 20) C (by omega) dX0_drop_20 ?_
      refine jr_if_eqB (tgt := 154) (pc := 21) C dX0_drop_21 (by decide) (fun c_21 => ?_) (fun c_21 => ?_)
      · refine jr_inc (pc := 154) C dX0_drop_154 rfl (by decide) rfl ?_
        refine jr_goto (tgt := 9) (pc := 157) C dX0_drop_157 (by decide) ?_
        first
          | exact ih (t + 1) _ _ _ _ (by omega) (xd_skip hI (fun z => c_31 (t1.trans z.2)))
          | exact ih (t + 1) _ _ _ _ (by omega) (xd_skip hI (fun z => by rw [c_21] at z; cases z.1))
      · refine jr_aload_n (pc := 24) C dX0_drop_24 rfl ?_
        refine jx_g_bs (pc := 25) C dX0_drop_25 ?_
        refine jr_iload_n (pc := 28) C dX0_drop_28 rfl ?_
        refine jx_l_bs (pc := 29) C (by omega) dX0_drop_29 ?_
        refine jr_iload_n (pc := 30) C dX0_drop_30 rfl ?_
        refine jr_icmp_neS (tgt := 154) (pc := 31) C dX0_drop_31 (by decide) (by rw [t1]; exact hbl t ht14 c_21) (by omega) (fun c_31 => ?_) (fun c_31 => ?_)
        · refine jr_inc (pc := 154) C dX0_drop_154 rfl (by decide) rfl ?_
          refine jr_goto (tgt := 9) (pc := 157) C dX0_drop_157 (by decide) ?_
          first
            | exact ih (t + 1) _ _ _ _ (by omega) (xd_skip hI (fun z => c_31 (t1.trans z.2)))
            | exact ih (t + 1) _ _ _ _ (by omega) (xd_skip hI (fun z => by rw [c_21] at z; cases z.1))
        · refine jr_aload_n (pc := 34) C dX0_drop_34 rfl ?_
          refine jx_g_en (pc := 35) C dX0_drop_35 ?_
          refine jr_iload_n (pc := 38) C dX0_drop_38 rfl ?_
          refine jx_l_en (pc := 39) C (by omega) dX0_drop_39 ?_
          refine jr_aload_n (pc := 40) C dX0_drop_40 rfl ?_
          refine jx_g_en (pc := 41) C dX0_drop_41 ?_
          refine jr_iload_n (pc := 44) C dX0_drop_44 rfl ?_
          refine jx_l_en (pc := 45) C (by omega) dX0_drop_45 ?_
          refine jr_iconst (pc := 46) (v := (-1)) C dX0_drop_46 (by decide) ?_
          refine jr_ixor (pc := 47) C dX0_drop_47 ?_
          refine jr_iand (pc := 48) C dX0_drop_48 ?_
          refine jr_istore (pc := 49) C dX0_drop_49 (by decide) rfl ?_
          refine jr_iconst (pc := 51) (v := nI 0) C dX0_drop_51 (by decide) ?_
          refine jr_istore (pc := 52) C dX0_drop_52 (by decide) rfl ?_
          have hst : s ≠ t := fun z => hss (by rw [z] at c_31 ⊢; exact t1.symm.trans c_31)
          refine mX_drop_in C hs ht14 hst ct' (fun ct2 h1 h2 => ?_) 16 0 ct' (by omega) (fun g hg => absurd hg (Nat.not_lt_zero _)) (fun i hi => rfl)
          refine jr_aload_n (pc := 101) C dX0_drop_101 rfl ?_
          refine jx_g_pr (pc := 102) C dX0_drop_102 ?_
          refine jr_iload_n (pc := 105) C dX0_drop_105 rfl ?_
          refine jr_aload_n (pc := 106) C dX0_drop_106 rfl ?_
          refine jx_g_pr (pc := 107) C dX0_drop_107 ?_
          refine jr_iload_n (pc := 110) C dX0_drop_110 rfl ?_
          refine jx_l_pr (pc := 111) C (by omega) dX0_drop_111 ?_
          refine jr_aload_n (pc := 112) C dX0_drop_112 rfl ?_
          refine jx_g_pr (pc := 113) C dX0_drop_113 ?_
          refine jr_iload_n (pc := 116) C dX0_drop_116 rfl ?_
          refine jx_l_pr (pc := 117) C (by omega) dX0_drop_117 ?_
          refine jr_iload (pc := 118) C dX0_drop_118 rfl ?_
          refine jr_iand (pc := 120) C dX0_drop_120 ?_
          refine jr_ior (pc := 121) C dX0_drop_121 ?_
          refine jx_s_pr (pc := 122) C (by omega) dX0_drop_122 ?_
          refine jr_aload_n (pc := 123) C dX0_drop_123 rfl ?_
          refine jx_g_en (pc := 124) C dX0_drop_124 ?_
          refine jr_iload_n (pc := 127) C dX0_drop_127 rfl ?_
          refine jr_aload_n (pc := 128) C dX0_drop_128 rfl ?_
          refine jx_g_en (pc := 129) C dX0_drop_129 ?_
          refine jr_iload_n (pc := 132) C dX0_drop_132 rfl ?_
          refine jx_l_en (pc := 133) C (by omega) dX0_drop_133 ?_
          refine jr_aload_n (pc := 134) C dX0_drop_134 rfl ?_
          refine jx_g_en (pc := 135) C dX0_drop_135 ?_
          refine jr_iload_n (pc := 138) C dX0_drop_138 rfl ?_
          refine jx_l_en (pc := 139) C (by omega) dX0_drop_139 ?_
          refine jr_ior (pc := 140) C dX0_drop_140 ?_
          refine jx_s_en (pc := 141) C (by omega) dX0_drop_141 ?_
          refine jr_aload_n (pc := 142) C dX0_drop_142 rfl ?_
          refine jx_g_bs (pc := 143) C dX0_drop_143 ?_
          refine jr_iload_n (pc := 146) C dX0_drop_146 rfl ?_
          refine jr_aload_n (pc := 147) C dX0_drop_147 rfl ?_
          refine jx_g_bs (pc := 148) C dX0_drop_148 ?_
          refine jr_iload_n (pc := 151) C dX0_drop_151 rfl ?_
          refine jx_l_bs (pc := 152) C (by omega) dX0_drop_152 ?_
          refine jx_s_bs (pc := 153) C (by omega) dX0_drop_153 ?_
          refine jr_inc (pc := 154) C dX0_drop_154 rfl (by decide) rfl ?_
          refine jr_goto (tgt := 9) (pc := 157) C dX0_drop_157 (by decide) ?_
          exact jr_sub (ih (t + 1) _ _ _ _ (by omega) (xd_step hI ht14 hs hss c_21 c_31 h1 h2)) rfl
theorem mX_drop_shift (C : jw_C E cX0_drop 6 RX0 (tX cA) 1) {s p : Nat} (hp : p < n) (hn : n ≤ 14) (o0 : Nat → Nat) (kk : ∀ o : Nat → Nat, (∀ q, q < n - 1 → o q = o0 (xr_ix p q)) → jw_J E 6 (wX h ad cA lc o bs en pr ct dy pn tc tk kp lm n td) 199 [(0, .ref h), (1, .int (nI p)), (2, .int (nI s)), (3, .int (nI n))] []) : ∀ (j k : Nat) (o : Nat → Nat), k + j = n → p < k → (∀ q, q < p → o q = o0 q) → (∀ q, p ≤ q → q + 1 < k → o q = o0 (q + 1)) → (∀ q, k ≤ q + 1 → o q = o0 q) → jw_J E 6 (wX h ad cA lc o bs en pr ct dy pn tc tk kp lm n td) 171 [(0, .ref h), (1, .int (nI p)), (2, .int (nI s)), (3, .int (nI k))] [] := by
  intro j
  induction j with
  | zero =>
    intro k o hk hpk h1 h2 h3
    have ekn : k = n := by omega
    subst ekn
    refine jr_iload_n (pc := 171) C dX0_drop_171 rfl ?_
    refine jr_aload_n (pc := 172) C dX0_drop_172 rfl ?_
    refine jx_g_n (pc := 173) C dX0_drop_173 ?_
    refine jr_icmp_geN (tgt := 199) (pc := 176) C dX0_drop_176 (by decide) (by omega) (by omega) (fun c_176 => ?_) (fun c_176 => ?_)
    · refine kk o (fun q hq => ?_)
      unfold xr_ix
      by_cases c : q < p
      · rw [if_pos c]; exact h1 q c
      · rw [if_neg c]; exact h2 q (by omega) (by omega)
    · exfalso; omega
  | succ j ih =>
    intro k o hk hpk h1 h2 h3
    refine jr_iload_n (pc := 171) C dX0_drop_171 rfl ?_
    refine jr_aload_n (pc := 172) C dX0_drop_172 rfl ?_
    refine jx_g_n (pc := 173) C dX0_drop_173 ?_
    refine jr_icmp_geN (tgt := 199) (pc := 176) C dX0_drop_176 (by decide) (by omega) (by omega) (fun c_176 => ?_) (fun c_176 => ?_)
    · exfalso; omega
    · refine jr_aload_n (pc := 179) C dX0_drop_179 rfl ?_
      refine jx_g_o (pc := 180) C dX0_drop_180 ?_
      refine jr_iload_n (pc := 183) C dX0_drop_183 rfl ?_
      refine jr_iconst (pc := 184) (v := nI 1) C dX0_drop_184 (by decide) ?_
      refine jr_isubN (pc := 185) C dX0_drop_185 (by omega) ?_
      refine jr_aload_n (pc := 186) C dX0_drop_186 rfl ?_
      refine jx_g_o (pc := 187) C dX0_drop_187 ?_
      refine jr_iload_n (pc := 190) C dX0_drop_190 rfl ?_
      refine jx_l_o (pc := 191) C (by omega) dX0_drop_191 ?_
      refine jx_s_o (pc := 192) C (by omega) dX0_drop_192 ?_
      refine jr_inc (pc := 193) C dX0_drop_193 rfl (by decide) rfl ?_
      refine jr_goto (tgt := 171) (pc := 196) C dX0_drop_196 (by decide) ?_
      refine ih (k + 1) _ (by omega) (by omega) (fun q hq => ?_) (fun q hq hk2 => ?_) (fun q hq => ?_)
      · rw [jp_un (by omega)]; exact h1 q hq
      · by_cases e : q = k - 1
        · rw [e, jp_us, h3 k (by omega), show k - 1 + 1 = k by omega]
        · rw [jp_un e]; exact h2 q hq (by omega)
      · rw [jp_un (by omega)]; exact h3 q (by omega)
/-- drop(p): point p goes -/
theorem mX_drop (hr : xr_R G lc o bs en pr ct dy pn tc tk lm) {p : Nat} (hp : p < jg_n G) : jw_Mv yX0_drop cX0_drop 6 1 D (tX cA) [.ref h, .int (nI p)] (wX h ad cA lc o bs en pr ct dy pn tc tk kp lm (jg_n G) (jg_td G)) (fun w' => xw_K h ad cA kp (jg_rm G p) w') := by
  refine jw_Mv.of (own := RX0) (by decide) rfl (Nat.le_of_ble_eq_true rfl) ?_
  intro E hE C hret
  subst hE
  show jw_J E 6 _ 0 [(0, .ref h), (1, .int (nI p))] []
  have hn := xr_n hr
  have hop := xr_o hr hp
  have hss : ¬ bs (o p) = some (o p) := fun z => by
    rcases xr_bs hr hp with h | ⟨q, hq, h⟩
    · rw [h] at z; cases z
    · rw [h] at z
      have := xr_inj hr (by omega) hp (Option.some.inj z)
      omega
  have hbl : ∀ u, u < 14 → tk u = true → ∀ k, bs u = some k → k < 2 ^ 31 := fun u hu hk => by
    obtain ⟨i, hi, e⟩ := xr_tk1 hr hu hk
    rw [← e]
    exact xr_bl hr hi
  refine jr_aload_n (pc := 0) C dX0_drop_0 rfl ?_
  refine jx_g_o (pc := 1) C dX0_drop_1 ?_
  refine jr_iload_n (pc := 4) C dX0_drop_4 rfl ?_
  refine jx_l_o (pc := 5) C (by omega) dX0_drop_5 ?_
  refine jr_istore_n (pc := 6) C dX0_drop_6 (by decide) rfl ?_
  refine jr_iconst (pc := 7) (v := nI 0) C dX0_drop_7 (by decide) ?_
  refine jr_istore_n (pc := 8) C dX0_drop_8 (by decide) rfl ?_
  refine mX_drop_loop C hop hss hbl (fun bs' en' pr' ct' hI => ?_) 14 0 bs en pr ct (by omega) xd_0
  refine jr_aload_n (pc := 160) C dX0_drop_160 rfl ?_
  refine jx_g_tk (pc := 161) C dX0_drop_161 ?_
  refine jr_iload_n (pc := 164) C dX0_drop_164 rfl ?_
  refine jr_iconst (pc := 165) (v := nI 0) C dX0_drop_165 (by decide) ?_
  refine jr_top (show nI 0 = jp_b false from by decide) ?_
  refine jx_s_tk (pc := 166) C (by omega) dX0_drop_166 ?_
  refine jr_iload_n (pc := 167) C dX0_drop_167 rfl ?_
  refine jr_iconst (pc := 168) (v := nI 1) C dX0_drop_168 (by decide) ?_
  refine jr_iaddN (pc := 169) C dX0_drop_169 ?_
  refine jr_istore_n (pc := 170) C dX0_drop_170 (by decide) rfl ?_
  refine mX_drop_shift C hp hn o (fun o' ho => ?_) (jg_n G - (p + 1)) (p + 1) o (by omega) (by omega) (fun q hq => rfl) (fun q hq hk2 => absurd hk2 (by omega)) (fun q hq => rfl)
  refine jr_aload_n (pc := 199) C dX0_drop_199 rfl ?_
  refine jr_dup (pc := 200) C dX0_drop_200 rfl ?_
  refine jx_g_n (pc := 201) C dX0_drop_201 ?_
  refine jr_iconst (pc := 204) (v := nI 1) C dX0_drop_204 (by decide) ?_
  refine jr_isubN (pc := 205) C dX0_drop_205 (by omega) ?_
  refine jx_p_n (pc := 206) C dX0_drop_206 ?_
  exact hret _ _ _ dX0_drop_209 ⟨_, _, _, _, _, _, _, _, _, _, _, rfl, xr_drop hr hp ho hI⟩
/-- forget(p) -/
theorem mX_forget (hr : xr_R G lc o bs en pr ct dy pn tc tk lm) (a : Int32) : jw_Mi yX0_forget cX0_forget 2 (some .int) 2 D (tX cA) [.ref h, .int a] (wX h ad cA lc o bs en pr ct dy pn tc tk kp lm (jg_n G) (jg_td G)) (fun r w' => r = (sp_forget a G).1 ∧ xw_R h ad cA (sp_forget a G).2 w') := by
  have hn := xr_n hr
  cases hq : jp_ix a (jg_n G) with
  | none =>
    rw [show sp_forget a G = (-1, G) from by simp only [sp_forget, hq]]
    refine jw_Mi.of (own := RX0) (by decide) rfl (Nat.le_of_ble_eq_true rfl) (fun _ _ _ => rfl) ?_
    intro E hE C hret
    subst hE
    show jw_J E 2 _ 0 [(0, .ref h), (1, .int a)] []
    refine jr_aload_n (pc := 0) C dX0_forget_0 rfl ?_
    refine jr_iload_n (pc := 1) C dX0_forget_1 rfl ?_
    refine jr_calli (pc := 2) C gw_X0_75 ok_X0_isPoint (mX_isPoint _ (by omega)) rfl (by decide) (by decide) rfl rfl dX0_forget_2 rfl (Nat.le_of_ble_eq_true rfl) ?_
    rintro _ _ ⟨rfl, rfl⟩
    refine jr_if_neB (tgt := 10) (pc := 5) C dX0_forget_5 (by decide) (fun c_5 => ?_) (fun c_5 => ?_)
    · simp [hq] at c_5
    · refine jr_iconst (pc := 8) (v := (-1)) C dX0_forget_8 (by decide) ?_
      exact hret _ _ _ _ dX0_forget_9 ⟨rfl, xw_in hr⟩
  | some p =>
    obtain ⟨hp, rfl⟩ := jp_ix_some hq
    have hop := xr_o hr hp
    have hdp := xr_dp hr hp
    cases hpv : jg_pv G p with
    | true =>
      rw [show sp_forget (nI p) G = (-2, G) from by simp only [sp_forget, hq, hpv, if_true]]
      refine jw_Mi.of (own := RX0) (by decide) rfl (Nat.le_of_ble_eq_true rfl) (fun _ _ _ => rfl) ?_
      intro E hE C hret
      subst hE
      show jw_J E 2 _ 0 [(0, .ref h), (1, .int (nI p))] []
      refine jr_aload_n (pc := 0) C dX0_forget_0 rfl ?_
      refine jr_iload_n (pc := 1) C dX0_forget_1 rfl ?_
      refine jr_calli (pc := 2) C gw_X0_75 ok_X0_isPoint (mX_isPoint _ (by omega)) rfl (by decide) (by decide) rfl rfl dX0_forget_2 rfl (Nat.le_of_ble_eq_true rfl) ?_
      rintro _ _ ⟨rfl, rfl⟩
      refine jr_if_neB (tgt := 10) (pc := 5) C dX0_forget_5 (by decide) (fun c_5 => ?_) (fun c_5 => ?_)
      · refine jr_aload_n (pc := 10) C dX0_forget_10 rfl ?_
        refine jx_g_pn (pc := 11) C dX0_forget_11 ?_
        refine jr_aload_n (pc := 14) C dX0_forget_14 rfl ?_
        refine jx_g_o (pc := 15) C dX0_forget_15 ?_
        refine jr_iload_n (pc := 18) C dX0_forget_18 rfl ?_
        refine jx_l_o (pc := 19) C (by omega) dX0_forget_19 ?_
        refine jx_l_pn (pc := 20) C (by omega) dX0_forget_20 ?_
        refine jr_if_eqB (tgt := 27) (pc := 21) C dX0_forget_21 (by decide) (fun c_21 => ?_) (fun c_21 => ?_)
        · rw [hdp.2.1, hpv] at c_21; cases c_21
        · refine jr_bipush (pc := 24) (v := (-2)) C dX0_forget_24 (by decide) ?_
          exact hret _ _ _ _ dX0_forget_26 ⟨rfl, xw_in hr⟩
      · simp [hq] at c_5
    | false =>
      rw [show sp_forget (nI p) G = (nI (jg_n G - 1), jg_rm G p) from by simp only [sp_forget, hq, hpv]; rfl]
      refine jw_Mi.of (own := RX0) (by decide) rfl (Nat.le_of_ble_eq_true rfl) (fun _ _ _ => rfl) ?_
      intro E hE C hret
      subst hE
      show jw_J E 2 _ 0 [(0, .ref h), (1, .int (nI p))] []
      refine jr_aload_n (pc := 0) C dX0_forget_0 rfl ?_
      refine jr_iload_n (pc := 1) C dX0_forget_1 rfl ?_
      refine jr_calli (pc := 2) C gw_X0_75 ok_X0_isPoint (mX_isPoint _ (by omega)) rfl (by decide) (by decide) rfl rfl dX0_forget_2 rfl (Nat.le_of_ble_eq_true rfl) ?_
      rintro _ _ ⟨rfl, rfl⟩
      refine jr_if_neB (tgt := 10) (pc := 5) C dX0_forget_5 (by decide) (fun c_5 => ?_) (fun c_5 => ?_)
      · refine jr_aload_n (pc := 10) C dX0_forget_10 rfl ?_
        refine jx_g_pn (pc := 11) C dX0_forget_11 ?_
        refine jr_aload_n (pc := 14) C dX0_forget_14 rfl ?_
        refine jx_g_o (pc := 15) C dX0_forget_15 ?_
        refine jr_iload_n (pc := 18) C dX0_forget_18 rfl ?_
        refine jx_l_o (pc := 19) C (by omega) dX0_forget_19 ?_
        refine jx_l_pn (pc := 20) C (by omega) dX0_forget_20 ?_
        refine jr_if_eqB (tgt := 27) (pc := 21) C dX0_forget_21 (by decide) (fun c_21 => ?_) (fun c_21 => ?_)
        · refine jr_aload_n (pc := 27) C dX0_forget_27 rfl ?_
          refine jr_iload_n (pc := 28) C dX0_forget_28 rfl ?_
          refine jr_callv (pc := 29) C gw_X0_82 ok_X0_drop (mX_drop hr hp) rfl (by decide) (by decide) rfl rfl dX0_forget_29 rfl (Nat.le_of_ble_eq_true rfl) ?_
          rintro _ ⟨lc1, o1, bs1, en1, pr1, ct1, dy1, pn1, tc1, tk1, lm1, rfl, hr1⟩
          refine jr_aload_n (pc := 32) C dX0_forget_32 rfl ?_
          refine jx_g_n (pc := 33) C dX0_forget_33 ?_
          exact hret _ _ _ _ dX0_forget_36 ⟨rfl, xw_in hr1⟩
        · rw [hdp.2.1, hpv] at c_21; cases c_21
      · simp [hq] at c_5
end
end
section
/-! the component: keepHeads, prune -/
set_option maxRecDepth 100000
theorem jp_cf_t {P : Nat → Bool} {a k : Nat} (h : P a = true) : jp_cf P a (k + 1) = jp_cf P (a + 1) k + 1 := by
  show jp_cf P (a + 1) k + (if P a = true then 1 else 0) = _
  rw [if_pos h]
theorem jp_cf_f {P : Nat → Bool} {a k : Nat} (h : P a = false) : jp_cf P a (k + 1) = jp_cf P (a + 1) k := by
  show jp_cf P (a + 1) k + (if P a = true then 1 else 0) = _
  rw [if_neg (by rw [h]; decide)]
  rfl
theorem sp_kp_f {n : Nat} {dv : Nat → Nat} {l most p : Nat} (h : sp_hd n dv l p = false) : sp_kp n dv l most p = false := by unfold sp_kp; rw [h, Bool.false_and]
theorem sp_kp_h {n : Nat} {dv : Nat → Nat} {l most p k : Nat} (h : sp_hd n dv l p = true) (hk : p + 1 + k = n) : sp_kp n dv l most p = decide (jp_cf (sp_hd n dv l) (p + 1) k < most) := by
  unfold sp_kp
  rw [h, Bool.true_and, show n - 1 - p = k by omega]
/-- one more place has its mark -/
theorem jp_mark {kp kp0 : Nat → Bool} {s : Nat → Bool} {a n : Nat} (h1 : ∀ q, q < a + 1 → kp q = kp0 q) (h2 : ∀ q, a + 1 ≤ q → q < n → kp q = (kp0 q || s q)) (hs : s a = false) : (∀ q, q < a → kp q = kp0 q) ∧ ∀ q, a ≤ q → q < n → kp q = (kp0 q || s q) := by
  refine ⟨fun q hq => h1 q (by omega), fun q h3 h4 => ?_⟩
  by_cases e : q = a
  · rw [e, hs, Bool.or_false]; exact h1 a (Nat.lt_succ_self _)
  · exact h2 q (by omega) h4
theorem jp_mark' {kp kp0 : Nat → Bool} {s : Nat → Bool} {a n : Nat} (h1 : ∀ q, q < a + 1 → kp q = kp0 q) (h2 : ∀ q, a + 1 ≤ q → q < n → kp q = (kp0 q || s q)) (hs : s a = true) : (∀ q, q < a → va_up kp a true q = kp0 q) ∧ ∀ q, a ≤ q → q < n → va_up kp a true q = (kp0 q || s q) := by
  refine ⟨fun q hq => by rw [jp_un (by omega)]; exact h1 q (by omega), fun q h3 h4 => ?_⟩
  by_cases e : q = a
  · rw [e, jp_us, hs, Bool.or_true]
  · rw [jp_un e]; exact h2 q (by omega) h4
section
variable {D : va_G} {E : je_E} {h : Nat} {ad : Nat → Nat} {cA : Nat → ClassId} {tys : List (ClassId × FieldType)} {w : va_W} {lc : Nat → Int32} {o : Nat → Nat} {bs : Nat → Option Nat} {en pr ct : Nat → Int32} {dy : Nat → Nat} {pn : Nat → Bool} {tc : Nat → Int32} {tk kp : Nat → Bool} {lm : Int32} {n td : Nat} {G : jg_G}
theorem mX_keepHeads_loop (C : jw_C E cX0_keepHeads 7 RX0 (tX cA) 0) (hr : xr_R G lc o bs en pr ct dy pn tc tk lm) {l most : Nat} (hl : 1 ≤ l) (hl2 : l < 2 ^ 31) (hm : most < 2 ^ 31) (kp0 : Nat → Bool) (kk : ∀ (kp : Nat → Bool) (lv : List (Nat × Value)), (∀ q, q < jg_n G → kp q = (kp0 q || sp_kp (jg_n G) (jg_dv G) l most q)) → jw_J E 7 (wX h ad cA lc o bs en pr ct dy pn tc tk kp lm (jg_n G) (jg_td G)) 113 lv []) : ∀ (a k : Nat) (kp : Nat → Bool), a + k = jg_n G → (∀ q, q < a → kp q = kp0 q) → (∀ q, a ≤ q → q < jg_n G → kp q = (kp0 q || sp_kp (jg_n G) (jg_dv G) l most q)) → jw_J E 7 (wX h ad cA lc o bs en pr ct dy pn tc tk kp lm (jg_n G) (jg_td G)) 10 [(0, .ref h), (1, .int (nI l)), (2, .int (nI most)), (3, .int (nI (jp_cf (sp_hd (jg_n G) (jg_dv G) l) a k))), (4, .int (nI a - nI 1))] [] := by
  intro a
  have hn := xr_n hr
  have htd := xr_td hr
  induction a with
  | zero =>
    intro k kp hk h1 h2
    refine jr_iload (pc := 10) C dX0_keepHeads_10 rfl ?_
    refine jr_if_lt (tgt := 113) (pc := 12) C dX0_keepHeads_12 (by decide) (fun c_12 => ?_) (fun c_12 => ?_)
    · exact kk kp _ (fun q hq => h2 q (Nat.zero_le _) hq)
    · exact absurd (by decide) c_12
  | succ a ih =>
    intro k kp hk h1 h2
    rw [jp_pred]
    have hop := xr_o hr (p := a) (by omega)
    have hdp := xr_dp hr (p := a) (by omega)
    have hcl := jp_cf_le (sp_hd (jg_n G) (jg_dv G) l) k (a + 1)
    have hmid : ∀ (b : Bool) (v : Int32), b = (sp_hd (jg_n G) (jg_dv G) l) a → jw_J E 7 (wX h ad cA lc o bs en pr ct dy pn tc tk kp lm (jg_n G) (jg_td G)) 84 [(0, .ref h), (1, .int (nI l)), (2, .int (nI most)), (3, .int (nI (jp_cf (sp_hd (jg_n G) (jg_dv G) l) (a + 1) k))), (4, .int (nI a)), (5, .int v)] [.int (jp_b b)] := by
      intro b v hb
      refine jr_istore (pc := 84) C dX0_keepHeads_84 (by decide) rfl ?_
      refine jr_iload (pc := 86) C dX0_keepHeads_86 rfl ?_
      refine jr_if_eqB (tgt := 107) (pc := 88) C dX0_keepHeads_88 (by decide) (fun c_88 => ?_) (fun c_88 => ?_)
      · refine jr_iincv (pc := 107) C dX0_keepHeads_107 rfl (jp_dec _) (by decide) rfl ?_
        refine jr_goto (tgt := 10) (pc := 110) C dX0_keepHeads_110 (by decide) ?_
        first
          | (obtain ⟨g1, g2⟩ := jp_mark' h1 h2 (sp_kp_h (k := k) (hb.symm.trans c_88) (by omega) |>.trans (decide_eq_true (by omega))); rw [← jp_cf_t (P := (sp_hd (jg_n G) (jg_dv G) l)) (hb.symm.trans c_88)]; exact jr_sub (ih (k + 1) _ (by omega) g1 g2) rfl)
          | (obtain ⟨g1, g2⟩ := jp_mark h1 h2 (sp_kp_h (k := k) (hb.symm.trans c_88) (by omega) |>.trans (decide_eq_false (by omega))); rw [← jp_cf_t (P := (sp_hd (jg_n G) (jg_dv G) l)) (hb.symm.trans c_88)]; exact jr_sub (ih (k + 1) _ (by omega) g1 g2) rfl)
          | (obtain ⟨g1, g2⟩ := jp_mark h1 h2 (sp_kp_f (most := most) (hb.symm.trans c_88)); rw [← jp_cf_f (P := (sp_hd (jg_n G) (jg_dv G) l)) (hb.symm.trans c_88)]; exact jr_sub (ih (k + 1) _ (by omega) g1 g2) rfl)
      · refine jr_inc (pc := 91) C dX0_keepHeads_91 rfl (by decide) rfl ?_
        refine jr_iload_n (pc := 94) C dX0_keepHeads_94 rfl ?_
        refine jr_iload_n (pc := 95) C dX0_keepHeads_95 rfl ?_
        refine jr_icmp_gtN (tgt := 107) (pc := 96) C dX0_keepHeads_96 (by decide) (by omega) (by omega) (fun c_96 => ?_) (fun c_96 => ?_)
        · refine jr_iincv (pc := 107) C dX0_keepHeads_107 rfl (jp_dec _) (by decide) rfl ?_
          refine jr_goto (tgt := 10) (pc := 110) C dX0_keepHeads_110 (by decide) ?_
          first
            | (obtain ⟨g1, g2⟩ := jp_mark' h1 h2 (sp_kp_h (k := k) (hb.symm.trans c_88) (by omega) |>.trans (decide_eq_true (by omega))); rw [← jp_cf_t (P := (sp_hd (jg_n G) (jg_dv G) l)) (hb.symm.trans c_88)]; exact jr_sub (ih (k + 1) _ (by omega) g1 g2) rfl)
            | (obtain ⟨g1, g2⟩ := jp_mark h1 h2 (sp_kp_h (k := k) (hb.symm.trans c_88) (by omega) |>.trans (decide_eq_false (by omega))); rw [← jp_cf_t (P := (sp_hd (jg_n G) (jg_dv G) l)) (hb.symm.trans c_88)]; exact jr_sub (ih (k + 1) _ (by omega) g1 g2) rfl)
            | (obtain ⟨g1, g2⟩ := jp_mark h1 h2 (sp_kp_f (most := most) (hb.symm.trans c_88)); rw [← jp_cf_f (P := (sp_hd (jg_n G) (jg_dv G) l)) (hb.symm.trans c_88)]; exact jr_sub (ih (k + 1) _ (by omega) g1 g2) rfl)
        · refine jr_aload_n (pc := 99) C dX0_keepHeads_99 rfl ?_
          refine jx_g_kp (pc := 100) C dX0_keepHeads_100 ?_
          refine jr_iload (pc := 103) C dX0_keepHeads_103 rfl ?_
          refine jr_iconst (pc := 105) (v := nI 1) C dX0_keepHeads_105 (by decide) ?_
          refine jr_top (show nI 1 = jp_b true from by decide) ?_
          refine jx_s_kp (pc := 106) C (by omega) dX0_keepHeads_106 ?_
          refine jr_iincv (pc := 107) C dX0_keepHeads_107 rfl (jp_dec _) (by decide) rfl ?_
          refine jr_goto (tgt := 10) (pc := 110) C dX0_keepHeads_110 (by decide) ?_
          first
            | (obtain ⟨g1, g2⟩ := jp_mark' h1 h2 (sp_kp_h (k := k) (hb.symm.trans c_88) (by omega) |>.trans (decide_eq_true (by omega))); rw [← jp_cf_t (P := (sp_hd (jg_n G) (jg_dv G) l)) (hb.symm.trans c_88)]; exact jr_sub (ih (k + 1) _ (by omega) g1 g2) rfl)
            | (obtain ⟨g1, g2⟩ := jp_mark h1 h2 (sp_kp_h (k := k) (hb.symm.trans c_88) (by omega) |>.trans (decide_eq_false (by omega))); rw [← jp_cf_t (P := (sp_hd (jg_n G) (jg_dv G) l)) (hb.symm.trans c_88)]; exact jr_sub (ih (k + 1) _ (by omega) g1 g2) rfl)
            | (obtain ⟨g1, g2⟩ := jp_mark h1 h2 (sp_kp_f (most := most) (hb.symm.trans c_88)); rw [← jp_cf_f (P := (sp_hd (jg_n G) (jg_dv G) l)) (hb.symm.trans c_88)]; exact jr_sub (ih (k + 1) _ (by omega) g1 g2) rfl)
    refine jr_iload (pc := 10) C dX0_keepHeads_10 rfl ?_
    refine jr_if_ltN (tgt := 113) (pc := 12) C dX0_keepHeads_12 (by decide) (by omega) ?_
    refine jr_aload_n (pc := 15) C dX0_keepHeads_15 rfl ?_
    refine jx_g_dy (pc := 16) C dX0_keepHeads_16 ?_
    refine jr_aload_n (pc := 19) C dX0_keepHeads_19 rfl ?_
    refine jx_g_o (pc := 20) C dX0_keepHeads_20 ?_
    refine jr_iload (pc := 23) C dX0_keepHeads_23 rfl ?_
    refine jx_l_o (pc := 25) C (by omega) dX0_keepHeads_25 ?_
    refine jx_l_dy (pc := 26) C (by omega) dX0_keepHeads_26 ?_
    refine jr_iload_n (pc := 27) C dX0_keepHeads_27 rfl ?_
    refine jr_if_leN (tgt := 35) (pc := 28) C dX0_keepHeads_28 (by decide) (by omega) (fun c_28 => ?_) (fun c_28 => ?_)
    · exfalso; omega
    · refine jr_iload_n (pc := 31) C dX0_keepHeads_31 rfl ?_
      refine jr_goto (tgt := 36) (pc := 32) C dX0_keepHeads_32 (by decide) ?_
      refine jr_idivN (pc := 36) C dX0_keepHeads_36 (by omega) (by omega) (by omega) ?_
      refine jr_istore (pc := 37) C dX0_keepHeads_37 (by decide) rfl ?_
      refine jr_iload (pc := 39) C dX0_keepHeads_39 rfl ?_
      refine jr_aload_n (pc := 41) C dX0_keepHeads_41 rfl ?_
      refine jx_g_n (pc := 42) C dX0_keepHeads_42 ?_
      refine jr_iconst (pc := 45) (v := nI 1) C dX0_keepHeads_45 (by decide) ?_
      refine jr_isubN (pc := 46) C dX0_keepHeads_46 (by omega) ?_
      refine jr_icmp_eqN (tgt := 79) (pc := 47) C dX0_keepHeads_47 (by decide) (by omega) (by omega) (fun c_47 => ?_) (fun c_47 => ?_)
      · refine jr_iconst (pc := 79) (v := jp_b true) C dX0_keepHeads_79 (by decide) ?_
        refine jr_goto (tgt := 84) (pc := 80) C dX0_keepHeads_80 (by decide) ?_
        refine hmid _ _ ?_
        unfold sp_hd
        first
          | rw [decide_eq_true (show a + 1 = jg_n G by omega), Bool.true_or]
          | rw [decide_eq_true (show ¬ jg_dv G (a + 1) / l = jg_dv G a / l by rw [← hd1.1, ← hdp.1]; exact c_76), Bool.or_true]
          | rw [decide_eq_false (show ¬ a + 1 = jg_n G by omega), decide_eq_false (show ¬ ¬ jg_dv G (a + 1) / l = jg_dv G a / l by rw [← hd1.1, ← hdp.1]; exact fun z => z c_76), Bool.or_false]
      · have ho1 := xr_o hr (p := a + 1) (by omega)
        have hd1 := xr_dp hr (p := a + 1) (by omega)
        refine jr_aload_n (pc := 50) C dX0_keepHeads_50 rfl ?_
        refine jx_g_dy (pc := 51) C dX0_keepHeads_51 ?_
        refine jr_aload_n (pc := 54) C dX0_keepHeads_54 rfl ?_
        refine jx_g_o (pc := 55) C dX0_keepHeads_55 ?_
        refine jr_iload (pc := 58) C dX0_keepHeads_58 rfl ?_
        refine jr_iconst (pc := 60) (v := nI 1) C dX0_keepHeads_60 (by decide) ?_
        refine jr_iaddN (pc := 61) C dX0_keepHeads_61 ?_
        refine jx_l_o (pc := 62) C (by omega) dX0_keepHeads_62 ?_
        refine jx_l_dy (pc := 63) C (by omega) dX0_keepHeads_63 ?_
        refine jr_iload_n (pc := 64) C dX0_keepHeads_64 rfl ?_
        refine jr_if_leN (tgt := 72) (pc := 65) C dX0_keepHeads_65 (by decide) (by omega) (fun c_65 => ?_) (fun c_65 => ?_)
        · exfalso; omega
        · refine jr_iload_n (pc := 68) C dX0_keepHeads_68 rfl ?_
          refine jr_goto (tgt := 73) (pc := 69) C dX0_keepHeads_69 (by decide) ?_
          refine jr_idivN (pc := 73) C dX0_keepHeads_73 (by omega) (by omega) (by omega) ?_
          refine jr_iload (pc := 74) C dX0_keepHeads_74 rfl ?_
          refine jr_icmp_eqN (tgt := 83) (pc := 76) C dX0_keepHeads_76 (by decide) (Nat.lt_of_le_of_lt (Nat.div_le_self _ _) (by omega)) (Nat.lt_of_le_of_lt (Nat.div_le_self _ _) (by omega)) (fun c_76 => ?_) (fun c_76 => ?_)
          · refine jr_iconst (pc := 83) (v := jp_b false) C dX0_keepHeads_83 (by decide) ?_
            refine hmid _ _ ?_
            unfold sp_hd
            first
              | rw [decide_eq_true (show a + 1 = jg_n G by omega), Bool.true_or]
              | rw [decide_eq_true (show ¬ jg_dv G (a + 1) / l = jg_dv G a / l by rw [← hd1.1, ← hdp.1]; exact c_76), Bool.or_true]
              | rw [decide_eq_false (show ¬ a + 1 = jg_n G by omega), decide_eq_false (show ¬ ¬ jg_dv G (a + 1) / l = jg_dv G a / l by rw [← hd1.1, ← hdp.1]; exact fun z => z c_76), Bool.or_false]
          · refine jr_iconst (pc := 79) (v := jp_b true) C dX0_keepHeads_79 (by decide) ?_
            refine jr_goto (tgt := 84) (pc := 80) C dX0_keepHeads_80 (by decide) ?_
            refine hmid _ _ ?_
            unfold sp_hd
            first
              | rw [decide_eq_true (show a + 1 = jg_n G by omega), Bool.true_or]
              | rw [decide_eq_true (show ¬ jg_dv G (a + 1) / l = jg_dv G a / l by rw [← hd1.1, ← hdp.1]; exact c_76), Bool.or_true]
              | rw [decide_eq_false (show ¬ a + 1 = jg_n G by omega), decide_eq_false (show ¬ ¬ jg_dv G (a + 1) / l = jg_dv G a / l by rw [← hd1.1, ← hdp.1]; exact fun z => z c_76), Bool.or_false]
/-- keepHeads(l, most): the last heads have their marks -/
theorem mX_keepHeads (hr : xr_R G lc o bs en pr ct dy pn tc tk lm) {l most : Nat} (hl : 1 ≤ l) (hl2 : l < 2 ^ 31) (hm : most < 2 ^ 31) : jw_Mv yX0_keepHeads cX0_keepHeads 7 0 D (tX cA) [.ref h, .int (nI l), .int (nI most)] (wX h ad cA lc o bs en pr ct dy pn tc tk kp lm (jg_n G) (jg_td G)) (fun w' => ∃ kp', w' = (wX h ad cA lc o bs en pr ct dy pn tc tk kp' lm (jg_n G) (jg_td G)) ∧ ∀ q, q < jg_n G → kp' q = (kp q || sp_kp (jg_n G) (jg_dv G) l most q)) := by
  refine jw_Mv.of (own := RX0) (by decide) rfl (Nat.le_of_ble_eq_true rfl) ?_
  intro E hE C hret
  subst hE
  show jw_J E 7 _ 0 [(0, .ref h), (1, .int (nI l)), (2, .int (nI most))] []
  refine jr_iconst (pc := 0) (v := nI 0) C dX0_keepHeads_0 (by decide) ?_
  refine jr_istore_n (pc := 1) C dX0_keepHeads_1 (by decide) rfl ?_
  refine jr_aload_n (pc := 2) C dX0_keepHeads_2 rfl ?_
  refine jx_g_n (pc := 3) C dX0_keepHeads_3 ?_
  refine jr_iconst (pc := 6) (v := nI 1) C dX0_keepHeads_6 (by decide) ?_
  refine jr_isub (pc := 7) C dX0_keepHeads_7 ?_
  refine jr_istore (pc := 8) C dX0_keepHeads_8 (by decide) rfl ?_
  exact mX_keepHeads_loop C hr hl hl2 hm kp (fun kp' lv hk => hret _ _ _ dX0_keepHeads_113 ⟨kp', rfl, hk⟩) (jg_n G) 0 kp (by omega) (fun q hq => rfl) (fun q h1 h2 => absurd h2 (by omega))
theorem mX_prune_first (C : jw_C E cX0_prune 4 RX0 (tX cA) 2) (hr : xr_R G lc o bs en pr ct dy pn tc tk lm) {pl : Nat} (kk : ∀ kp : Nat → Bool, (∀ q, q < jg_n G → kp q = (jg_pv G q || decide (q + 1 = jg_n G))) → jw_J E 4 (wX h ad cA lc o bs en pr ct dy pn tc tk kp lm (jg_n G) (jg_td G)) 64 [(0, .ref h), (1, .int (nI pl)), (2, .int (nI (jg_n G)))] []) : ∀ (k i : Nat) (kp : Nat → Bool), i + k = jg_n G → (∀ q, q < i → kp q = (jg_pv G q || decide (q + 1 = jg_n G))) → jw_J E 4 (wX h ad cA lc o bs en pr ct dy pn tc tk kp lm (jg_n G) (jg_td G)) 15 [(0, .ref h), (1, .int (nI pl)), (2, .int (nI i))] [] := by
  intro k
  have hn := xr_n hr
  induction k with
  | zero =>
    intro i kp hi h1
    have e : i = jg_n G := hi
    subst e
    refine jr_iload_n (pc := 15) C dX0_prune_15 rfl ?_
    refine jr_aload_n (pc := 16) C dX0_prune_16 rfl ?_
    refine jx_g_n (pc := 17) C dX0_prune_17 ?_
    refine jr_icmp_geN (tgt := 64) (pc := 20) C dX0_prune_20 (by decide) (by omega) (by omega) (fun c_20 => ?_) (fun c_20 => ?_)
    · exact kk kp h1
    · exfalso; omega
  | succ k ih =>
    intro i kp hi h1
    have hop := xr_o hr (p := i) (by omega)
    have hdp := xr_dp hr (p := i) (by omega)
    refine jr_iload_n (pc := 15) C dX0_prune_15 rfl ?_
    refine jr_aload_n (pc := 16) C dX0_prune_16 rfl ?_
    refine jx_g_n (pc := 17) C dX0_prune_17 ?_
    refine jr_icmp_geN (tgt := 64) (pc := 20) C dX0_prune_20 (by decide) (by omega) (by omega) (fun c_20 => ?_) (fun c_20 => ?_)
    · exfalso; omega
    · refine jr_aload_n (pc := 23) C dX0_prune_23 rfl ?_
      refine jx_g_kp (pc := 24) C dX0_prune_24 ?_
      refine jr_iload_n (pc := 27) C dX0_prune_27 rfl ?_
      refine jr_aload_n (pc := 28) C dX0_prune_28 rfl ?_
      refine jx_g_pn (pc := 29) C dX0_prune_29 ?_
      refine jr_aload_n (pc := 32) C dX0_prune_32 rfl ?_
      refine jx_g_o (pc := 33) C dX0_prune_33 ?_
      refine jr_iload_n (pc := 36) C dX0_prune_36 rfl ?_
      refine jx_l_o (pc := 37) C (by omega) dX0_prune_37 ?_
      refine jx_l_pn (pc := 38) C (by omega) dX0_prune_38 ?_
      refine jr_if_neB (tgt := 52) (pc := 39) C dX0_prune_39 (by decide) (fun c_39 => ?_) (fun c_39 => ?_)
      · refine jr_iconst (pc := 52) (v := jp_b true) C dX0_prune_52 (by decide) ?_
        refine jr_goto (tgt := 57) (pc := 53) C dX0_prune_53 (by decide) ?_
        refine jr_top (y := jp_b (jg_pv G i || decide (i + 1 = jg_n G))) ?_ ?_
        · rw [← hdp.2.1, c_39]
          first
            | rw [Bool.true_or]
            | rw [Bool.false_or, decide_eq_true (by omega)]
            | rw [Bool.false_or, decide_eq_false (by omega)]
        refine jx_s_kp (pc := 57) C (by omega) dX0_prune_57 ?_
        refine jr_inc (pc := 58) C dX0_prune_58 rfl (by decide) rfl ?_
        refine jr_goto (tgt := 15) (pc := 61) C dX0_prune_61 (by decide) ?_
        refine ih (i + 1) _ (by omega) (fun q hq => ?_)
        by_cases e : q = i
        · rw [e, jp_us]
        · rw [jp_un e]; exact h1 q (by omega)
      · refine jr_iload_n (pc := 42) C dX0_prune_42 rfl ?_
        refine jr_aload_n (pc := 43) C dX0_prune_43 rfl ?_
        refine jx_g_n (pc := 44) C dX0_prune_44 ?_
        refine jr_iconst (pc := 47) (v := nI 1) C dX0_prune_47 (by decide) ?_
        refine jr_isubN (pc := 48) C dX0_prune_48 (by omega) ?_
        refine jr_icmp_neN (tgt := 56) (pc := 49) C dX0_prune_49 (by decide) (by omega) (by omega) (fun c_49 => ?_) (fun c_49 => ?_)
        · refine jr_iconst (pc := 56) (v := jp_b false) C dX0_prune_56 (by decide) ?_
          refine jr_top (y := jp_b (jg_pv G i || decide (i + 1 = jg_n G))) ?_ ?_
          · rw [← hdp.2.1, c_39]
            first
              | rw [Bool.true_or]
              | rw [Bool.false_or, decide_eq_true (by omega)]
              | rw [Bool.false_or, decide_eq_false (by omega)]
          refine jx_s_kp (pc := 57) C (by omega) dX0_prune_57 ?_
          refine jr_inc (pc := 58) C dX0_prune_58 rfl (by decide) rfl ?_
          refine jr_goto (tgt := 15) (pc := 61) C dX0_prune_61 (by decide) ?_
          refine ih (i + 1) _ (by omega) (fun q hq => ?_)
          by_cases e : q = i
          · rw [e, jp_us]
          · rw [jp_un e]; exact h1 q (by omega)
        · refine jr_iconst (pc := 52) (v := jp_b true) C dX0_prune_52 (by decide) ?_
          refine jr_goto (tgt := 57) (pc := 53) C dX0_prune_53 (by decide) ?_
          refine jr_top (y := jp_b (jg_pv G i || decide (i + 1 = jg_n G))) ?_ ?_
          · rw [← hdp.2.1, c_39]
            first
              | rw [Bool.true_or]
              | rw [Bool.false_or, decide_eq_true (by omega)]
              | rw [Bool.false_or, decide_eq_false (by omega)]
          refine jx_s_kp (pc := 57) C (by omega) dX0_prune_57 ?_
          refine jr_inc (pc := 58) C dX0_prune_58 rfl (by decide) rfl ?_
          refine jr_goto (tgt := 15) (pc := 61) C dX0_prune_61 (by decide) ?_
          refine ih (i + 1) _ (by omega) (fun q hq => ?_)
          by_cases e : q = i
          · rw [e, jp_us]
          · rw [jp_un e]; exact h1 q (by omega)
theorem mX_prune_last (C : jw_C E cX0_prune 4 RX0 (tX cA) 2) {pl N : Nat} {K : Nat → Bool} (hN : N ≤ 14) (hkp : ∀ q, q < N → kp q = K q) {R : jg_G × Nat} (hret : ∀ pc lv v w', decode cX0_prune pc = .ok (.ireturn, 1) → (v = nI R.2 ∧ xw_R h ad cA R.1 w') → jw_J E 4 w' pc lv [.int v]) : ∀ (a d : Nat) (G : jg_G) (lc : Nat → Int32) (o : Nat → Nat) (bs : Nat → Option Nat) (en pr ct : Nat → Int32) (dy : Nat → Nat) (pn : Nat → Bool) (tc : Nat → Int32) (tk : Nat → Bool) (lm : Int32), xr_R G lc o bs en pr ct dy pn tc tk lm → a ≤ jg_n G → a ≤ N → sp_prn K a G d = R → jw_J E 4 (wX h ad cA lc o bs en pr ct dy pn tc tk kp lm (jg_n G) (jg_td G)) 105 [(0, .ref h), (1, .int (nI pl)), (2, .int (nI d)), (3, .int (nI a - nI 1))] [] := by
  intro a
  induction a with
  | zero =>
    intro d G lc o bs en pr ct dy pn tc tk lm hr ha hN2 hR
    have hR : (G, d) = R := hR
    subst hR
    refine jr_iload_n (pc := 105) C dX0_prune_105 rfl ?_
    refine jr_if_lt (tgt := 132) (pc := 106) C dX0_prune_106 (by decide) (fun c_106 => ?_) (fun c_106 => ?_)
    · refine jr_iload_n (pc := 132) C dX0_prune_132 rfl ?_
      exact hret _ _ _ _ dX0_prune_133 ⟨rfl, xw_in hr⟩
    · exact absurd (by decide) c_106
  | succ a ih =>
    intro d G lc o bs en pr ct dy pn tc tk lm hr ha hN2 hR
    rw [jp_pred]
    have hn := xr_n hr
    have hR : (if K a = true then sp_prn K a G d else sp_prn K a (jg_rm G a) (d + 1)) = R := hR
    rw [← hkp a (by omega)] at hR
    refine jr_iload_n (pc := 105) C dX0_prune_105 rfl ?_
    refine jr_if_ltN (tgt := 132) (pc := 106) C dX0_prune_106 (by decide) (by omega) ?_
    refine jr_aload_n (pc := 109) C dX0_prune_109 rfl ?_
    refine jx_g_kp (pc := 110) C dX0_prune_110 ?_
    refine jr_iload_n (pc := 113) C dX0_prune_113 rfl ?_
    refine jx_l_kp (pc := 114) C (by omega) dX0_prune_114 ?_
    refine jr_if_neB (tgt := 126) (pc := 115) C dX0_prune_115 (by decide) (fun c_115 => ?_) (fun c_115 => ?_)
    · refine jr_iincv (pc := 126) C dX0_prune_126 rfl (jp_dec _) (by decide) rfl ?_
      refine jr_goto (tgt := 105) (pc := 129) C dX0_prune_129 (by decide) ?_
      first
        | exact ih (d + 1) (jg_rm G a) _ _ _ _ _ _ _ _ _ _ _ hr1 (show a ≤ jg_n G - 1 by omega) (by omega) (by rw [c_115] at hR; exact hR)
        | exact ih d G _ _ _ _ _ _ _ _ _ _ _ hr (by omega) (by omega) (by rw [c_115] at hR; exact hR)
    · refine jr_aload_n (pc := 118) C dX0_prune_118 rfl ?_
      refine jr_iload_n (pc := 119) C dX0_prune_119 rfl ?_
      refine jr_callv (pc := 120) C gw_X0_82 ok_X0_drop (mX_drop hr (p := a) (by omega)) rfl (by decide) (by decide) rfl rfl dX0_prune_120 rfl (Nat.le_of_ble_eq_true rfl) ?_
      rintro _ ⟨lc1, o1, bs1, en1, pr1, ct1, dy1, pn1, tc1, tk1, lm1, rfl, hr1⟩
      refine jr_inc (pc := 123) C dX0_prune_123 rfl (by decide) rfl ?_
      refine jr_iincv (pc := 126) C dX0_prune_126 rfl (jp_dec _) (by decide) rfl ?_
      refine jr_goto (tgt := 105) (pc := 129) C dX0_prune_129 (by decide) ?_
      first
        | exact ih (d + 1) (jg_rm G a) _ _ _ _ _ _ _ _ _ _ _ hr1 (show a ≤ jg_n G - 1 by omega) (by omega) (by rw [c_115] at hR; exact hR)
        | exact ih d G _ _ _ _ _ _ _ _ _ _ _ hr (by omega) (by omega) (by rw [c_115] at hR; exact hR)
/-- prune(plan) -/
theorem mX_prune (hr : xr_R G lc o bs en pr ct dy pn tc tk lm) (a : Int32) : jw_Mi yX0_prune cX0_prune 4 (some .int) 2 D (tX cA) [.ref h, .int a] (wX h ad cA lc o bs en pr ct dy pn tc tk kp lm (jg_n G) (jg_td G)) (fun r w' => r = (sp_prune a G).1 ∧ xw_R h ad cA (sp_prune a G).2 w') := by
  have hn := xr_n hr
  cases hq : jp_ix a 1000 with
  | none =>
    rw [show sp_prune a G = (-1, G) from by simp only [sp_prune, hq]]
    refine jw_Mi.of (own := RX0) (by decide) rfl (Nat.le_of_ble_eq_true rfl) (fun _ _ _ => rfl) ?_
    intro E hE C hret
    subst hE
    show jw_J E 4 _ 0 [(0, .ref h), (1, .int a)] []
    refine jr_iload_n (pc := 0) C dX0_prune_0 rfl ?_
    refine jr_if_lt (tgt := 11) (pc := 1) C dX0_prune_1 (by decide) (fun c_1 => ?_) (fun c_1 => ?_)
    · refine jr_iconst (pc := 11) (v := (-1)) C dX0_prune_11 (by decide) ?_
      exact hret _ _ _ _ dX0_prune_12 ⟨rfl, xw_in hr⟩
    · refine jr_iload_n (pc := 4) C dX0_prune_4 rfl ?_
      refine jr_sipush (pc := 5) (v := nI 999) C dX0_prune_5 (by decide) ?_
      refine jr_icmp_le (tgt := 13) (pc := 8) C dX0_prune_8 (by decide) (fun c_8 => ?_) (fun c_8 => ?_)
      · exact absurd c_8 (fun q => jp_ix_abs (m := 999) rfl (by omega) hq c_1 q)
      · refine jr_iconst (pc := 11) (v := (-1)) C dX0_prune_11 (by decide) ?_
        exact hret _ _ _ _ dX0_prune_12 ⟨rfl, xw_in hr⟩
  | some pl =>
    obtain ⟨hpl, rfl⟩ := jp_ix_some hq
    rw [show sp_prune (nI pl) G = (nI (sp_prn (sp_K (jg_n G) (jg_dv G) (jg_pv G) pl) (jg_n G) G 0).2, (sp_prn (sp_K (jg_n G) (jg_dv G) (jg_pv G) pl) (jg_n G) G 0).1) from by simp only [sp_prune, hq]]
    refine jw_Mi.of (own := RX0) (by decide) rfl (Nat.le_of_ble_eq_true rfl) (fun _ _ _ => rfl) ?_
    intro E hE C hret
    subst hE
    show jw_J E 4 _ 0 [(0, .ref h), (1, .int (nI pl))] []
    refine jr_iload_n (pc := 0) C dX0_prune_0 rfl ?_
    refine jr_if_ltN (tgt := 11) (pc := 1) C dX0_prune_1 (by decide) (by omega) ?_
    refine jr_iload_n (pc := 4) C dX0_prune_4 rfl ?_
    refine jr_sipush (pc := 5) (v := nI 999) C dX0_prune_5 (by decide) ?_
    refine jr_icmp_leN (tgt := 13) (pc := 8) C dX0_prune_8 (by decide) (by omega) (by omega) (fun c_8 => ?_) (fun c_8 => ?_)
    · refine jr_iconst (pc := 13) (v := nI 0) C dX0_prune_13 (by decide) ?_
      refine jr_istore_n (pc := 14) C dX0_prune_14 (by decide) rfl ?_
      refine mX_prune_first C hr (fun kp0 hk0 => ?_) (jg_n G) 0 kp (by omega) (fun q hq => absurd hq (Nat.not_lt_zero _))
      refine jr_aload_n (pc := 64) C dX0_prune_64 rfl ?_
      refine jr_iconst (pc := 65) (v := nI 1) C dX0_prune_65 (by decide) ?_
      refine jr_iload_n (pc := 66) C dX0_prune_66 rfl ?_
      refine jr_bipush (pc := 67) (v := nI 100) C dX0_prune_67 (by decide) ?_
      refine jr_idivN (pc := 69) C dX0_prune_69 (by omega) (by omega) (by omega) ?_
      refine jr_callv (pc := 70) C gw_X0_86 ok_X0_keepHeads (mX_keepHeads hr (l := 1) (most := pl / 100) (by omega) (by omega) (by omega)) rfl (by decide) (by decide) rfl rfl dX0_prune_70 rfl (Nat.le_of_ble_eq_true rfl) ?_
      rintro _ ⟨kp1, rfl, hk1⟩
      refine jr_aload_n (pc := 73) C dX0_prune_73 rfl ?_
      refine jr_bipush (pc := 74) (v := nI 7) C dX0_prune_74 (by decide) ?_
      refine jr_iload_n (pc := 76) C dX0_prune_76 rfl ?_
      refine jr_bipush (pc := 77) (v := nI 10) C dX0_prune_77 (by decide) ?_
      refine jr_idivN (pc := 79) C dX0_prune_79 (by omega) (by omega) (by omega) ?_
      refine jr_bipush (pc := 80) (v := nI 10) C dX0_prune_80 (by decide) ?_
      refine jr_iremN (pc := 82) C dX0_prune_82 (by omega) (by omega) (by omega) ?_
      refine jr_callv (pc := 83) C gw_X0_86 ok_X0_keepHeads (mX_keepHeads hr (l := 7) (most := pl / 10 % 10) (by omega) (by omega) (by omega)) rfl (by decide) (by decide) rfl rfl dX0_prune_83 rfl (Nat.le_of_ble_eq_true rfl) ?_
      rintro _ ⟨kp2, rfl, hk2⟩
      refine jr_aload_n (pc := 86) C dX0_prune_86 rfl ?_
      refine jr_bipush (pc := 87) (v := nI 28) C dX0_prune_87 (by decide) ?_
      refine jr_iload_n (pc := 89) C dX0_prune_89 rfl ?_
      refine jr_bipush (pc := 90) (v := nI 10) C dX0_prune_90 (by decide) ?_
      refine jr_iremN (pc := 92) C dX0_prune_92 (by omega) (by omega) (by omega) ?_
      refine jr_callv (pc := 93) C gw_X0_86 ok_X0_keepHeads (mX_keepHeads hr (l := 28) (most := pl % 10) (by omega) (by omega) (by omega)) rfl (by decide) (by decide) rfl rfl dX0_prune_93 rfl (Nat.le_of_ble_eq_true rfl) ?_
      rintro _ ⟨kp3, rfl, hk3⟩
      refine jr_iconst (pc := 96) (v := nI 0) C dX0_prune_96 (by decide) ?_
      refine jr_istore_n (pc := 97) C dX0_prune_97 (by decide) rfl ?_
      refine jr_aload_n (pc := 98) C dX0_prune_98 rfl ?_
      refine jx_g_n (pc := 99) C dX0_prune_99 ?_
      refine jr_iconst (pc := 102) (v := nI 1) C dX0_prune_102 (by decide) ?_
      refine jr_isub (pc := 103) C dX0_prune_103 ?_
      refine jr_istore_n (pc := 104) C dX0_prune_104 (by decide) rfl ?_
      refine mX_prune_last (N := jg_n G) (K := (sp_K (jg_n G) (jg_dv G) (jg_pv G) pl)) C hn (fun q hq => ?_) hret (jg_n G) 0 G _ _ _ _ _ _ _ _ _ _ _ hr (Nat.le_refl _) (Nat.le_refl _) rfl
      rw [hk3 q hq, hk2 q hq, hk1 q hq, hk0 q hq]
      rfl
    · exfalso; omega
end
end
section
/-! the reference: methods without loops -/
set_option maxRecDepth 100000
theorem jp_none0 {a : Option Int32} (h : a.isSome = false) : a.getD 0 = nI 0 := by
  cases a with
  | none => rfl
  | some x => cases h
theorem jp_opt {a b : Option Int32} : a = b ↔ a.isSome = b.isSome ∧ a.getD 0 = b.getD 0 := by
  cases a <;> cases b <;> simp
theorem mr_sl {G : jg_G} {lt lt' : Nat → Bool} {li li' : Nat → Int32} {he : Nat → Bool} {ct : Nat → Int32} {dy : Nat → Nat} {pn : Nat → Bool} {lv : Nat → Option Int32} (hr : mr_R G lt li he ct dy pn) (h : ∀ f, f < 16 → lt' f = (lv f).isSome ∧ li' f = (lv f).getD 0) : mr_R (jg_sl G lv) lt' li' he ct dy pn := by
  obtain ⟨a1, a2, a3, a4, a5, a6⟩ := hr
  exact ⟨a1, a2, a3, a4, h, a6⟩
theorem mr_set {G : jg_G} {lt : Nat → Bool} {li : Nat → Int32} {he : Nat → Bool} {ct : Nat → Int32} {dy : Nat → Nat} {pn : Nat → Bool} (hr : mr_R G lt li he ct dy pn) {f : Nat} {v : Option Int32} {b : Bool} {c : Int32} (hb : b = v.isSome) (hc : c = v.getD 0) : mr_R (jg_sl G (va_up (jg_lv G) f v)) (va_up lt f b) (va_up li f c) he ct dy pn := by
  refine mr_sl hr (fun g hg => ?_)
  unfold va_up
  by_cases e : g = f
  · rw [if_pos e, if_pos e, if_pos e]; exact ⟨hb, hc⟩
  · rw [if_neg e, if_neg e, if_neg e]; exact mr_lv hr hg
section
variable {D : va_G} {E : je_E} {h : Nat} {ad : Nat → Nat} {cA : Nat → ClassId} {td n : Nat} {lt : Nat → Bool} {li : Nat → Int32} {he : Nat → Bool} {ct : Nat → Int32} {dy : Nat → Nat} {pn kp : Nat → Bool} {G : jg_G}
theorem mw_inK (hr : mr_R G lt li he ct dy pn) : mw_K h ad cA kp G (wM h ad cA (jg_td G) lt li (jg_n G) he ct dy pn kp) := ⟨lt, li, he, ct, dy, pn, rfl, hr⟩
theorem mw_in (hr : mr_R G lt li he ct dy pn) : mw_R h ad cA G (wM h ad cA (jg_td G) lt li (jg_n G) he ct dy pn kp) := ⟨kp, mw_inK hr⟩
theorem mM_badFile (a : Int32) : jw_Mi yX1_badFile cX1_badFile 2 (some .boolean) 0 D (tM cA) [.ref h, .int a] (wM h ad cA td lt li n he ct dy pn kp) (fun r w' => r = jp_b (jp_ix a 16).isNone ∧ w' = (wM h ad cA td lt li n he ct dy pn kp)) := by
  refine jw_Mi.of (own := RX1) (by decide) rfl (Nat.le_of_ble_eq_true rfl) (fun v w' hq => by rw [hq.1]; exact jp_nb _) ?_
  intro E hE C hret
  subst hE
  show jw_J E 2 _ 0 [(0, .ref h), (1, .int a)] []
  cases hq : jp_ix a 16 with
  | some j =>
    obtain ⟨hj, rfl⟩ := jp_ix_some hq
    refine jr_iload_n (pc := 0) C dX1_badFile_0 rfl ?_
    refine jr_if_ltN (tgt := 10) (pc := 1) C dX1_badFile_1 (by decide) (by omega) ?_
    refine jr_iload_n (pc := 4) C dX1_badFile_4 rfl ?_
    refine jr_bipush (pc := 5) (v := nI 15) C dX1_badFile_5 (by decide) ?_
    refine jr_icmp_leN (tgt := 14) (pc := 7) C dX1_badFile_7 (by decide) (by omega) (by omega) (fun c_7 => ?_) (fun c_7 => ?_)
    · refine jr_iconst (pc := 14) (v := jp_b false) C dX1_badFile_14 (by decide) ?_
      exact hret _ _ _ _ dX1_badFile_15 ⟨by rw [hq]; rfl, rfl⟩
    · exfalso; omega
  | none =>
    refine jr_iload_n (pc := 0) C dX1_badFile_0 rfl ?_
    refine jr_if_lt (tgt := 10) (pc := 1) C dX1_badFile_1 (by decide) (fun c_1 => ?_) (fun c_1 => ?_)
    · refine jr_iconst (pc := 10) (v := jp_b true) C dX1_badFile_10 (by decide) ?_
      refine jr_goto (tgt := 15) (pc := 11) C dX1_badFile_11 (by decide) ?_
      exact hret _ _ _ _ dX1_badFile_15 ⟨by rw [hq]; rfl, rfl⟩
    · refine jr_iload_n (pc := 4) C dX1_badFile_4 rfl ?_
      refine jr_bipush (pc := 5) (v := nI 15) C dX1_badFile_5 (by decide) ?_
      refine jr_icmp_le (tgt := 14) (pc := 7) C dX1_badFile_7 (by decide) (fun c_7 => ?_) (fun c_7 => ?_)
      · exact absurd c_7 (fun q => jp_ix_abs (m := 15) rfl (by omega) hq c_1 q)
      · refine jr_iconst (pc := 10) (v := jp_b true) C dX1_badFile_10 (by decide) ?_
        refine jr_goto (tgt := 15) (pc := 11) C dX1_badFile_11 (by decide) ?_
        exact hret _ _ _ _ dX1_badFile_15 ⟨by rw [hq]; rfl, rfl⟩
theorem mM_badPoint (a : Int32) (hn : n ≤ 14) : jw_Mi yX1_badPoint cX1_badPoint 2 (some .boolean) 0 D (tM cA) [.ref h, .int a] (wM h ad cA td lt li n he ct dy pn kp) (fun r w' => r = jp_b (jp_ix a n).isNone ∧ w' = (wM h ad cA td lt li n he ct dy pn kp)) := by
  refine jw_Mi.of (own := RX1) (by decide) rfl (Nat.le_of_ble_eq_true rfl) (fun v w' hq => by rw [hq.1]; exact jp_nb _) ?_
  intro E hE C hret
  subst hE
  show jw_J E 2 _ 0 [(0, .ref h), (1, .int a)] []
  cases hq : jp_ix a n with
  | some j =>
    obtain ⟨hj, rfl⟩ := jp_ix_some hq
    refine jr_iload_n (pc := 0) C dX1_badPoint_0 rfl ?_
    refine jr_if_ltN (tgt := 18) (pc := 1) C dX1_badPoint_1 (by decide) (by omega) ?_
    refine jr_iload_n (pc := 4) C dX1_badPoint_4 rfl ?_
    refine jr_aload_n (pc := 5) C dX1_badPoint_5 rfl ?_
    refine jm_g_n (pc := 6) C dX1_badPoint_6 ?_
    refine jr_icmp_geN (tgt := 18) (pc := 9) C dX1_badPoint_9 (by decide) (by omega) (by omega) (fun c_9 => ?_) (fun c_9 => ?_)
    · exfalso; omega
    · refine jr_iload_n (pc := 12) C dX1_badPoint_12 rfl ?_
      refine jr_bipush (pc := 13) (v := nI 14) C dX1_badPoint_13 (by decide) ?_
      refine jr_icmp_ltN (tgt := 22) (pc := 15) C dX1_badPoint_15 (by decide) (by omega) (by omega) (fun c_15 => ?_) (fun c_15 => ?_)
      · refine jr_iconst (pc := 22) (v := jp_b false) C dX1_badPoint_22 (by decide) ?_
        exact hret _ _ _ _ dX1_badPoint_23 ⟨by rw [hq]; rfl, rfl⟩
      · exfalso; omega
  | none =>
    refine jr_iload_n (pc := 0) C dX1_badPoint_0 rfl ?_
    refine jr_if_lt (tgt := 18) (pc := 1) C dX1_badPoint_1 (by decide) (fun c_1 => ?_) (fun c_1 => ?_)
    · refine jr_iconst (pc := 18) (v := jp_b true) C dX1_badPoint_18 (by decide) ?_
      refine jr_goto (tgt := 23) (pc := 19) C dX1_badPoint_19 (by decide) ?_
      exact hret _ _ _ _ dX1_badPoint_23 ⟨by rw [hq]; rfl, rfl⟩
    · refine jr_iload_n (pc := 4) C dX1_badPoint_4 rfl ?_
      refine jr_aload_n (pc := 5) C dX1_badPoint_5 rfl ?_
      refine jm_g_n (pc := 6) C dX1_badPoint_6 ?_
      refine jr_icmp_ge (tgt := 18) (pc := 9) C dX1_badPoint_9 (by decide) (fun c_9 => ?_) (fun c_9 => ?_)
      · refine jr_iconst (pc := 18) (v := jp_b true) C dX1_badPoint_18 (by decide) ?_
        refine jr_goto (tgt := 23) (pc := 19) C dX1_badPoint_19 (by decide) ?_
        exact hret _ _ _ _ dX1_badPoint_23 ⟨by rw [hq]; rfl, rfl⟩
      · exact absurd c_9 (fun q => jp_ix_abs' (by omega) hq c_1 q)
/-- changed(p, f): whether the live file is not as point p holds it -/
theorem mM_changed (hr : mr_R G lt li he ct dy pn) {p f : Nat} (hp : p < jg_n G) (hf : f < 16) : jw_Mi yX1_changed cX1_changed 3 (some .boolean) 0 D (tM cA) [.ref h, .int (nI p), .int (nI f)] (wM h ad cA (jg_td G) lt li (jg_n G) he ct dy pn kp) (fun r w' => r = jp_b (jp_ne (jg_V G p f) (jg_lv G f)) ∧ w' = (wM h ad cA (jg_td G) lt li (jg_n G) he ct dy pn kp)) := by
  refine jw_Mi.of (own := RX1) (by decide) rfl (Nat.le_of_ble_eq_true rfl) (fun v w' hq => by rw [hq.1]; exact jp_nb _) ?_
  intro E hE C hret
  subst hE
  show jw_J E 3 _ 0 [(0, .ref h), (1, .int (nI p)), (2, .int (nI f))] []
  have hn := mr_n hr
  have hL := mr_lv hr hf
  have hV := mr_V hr hp hf
  refine jr_aload_n (pc := 0) C dX1_changed_0 rfl ?_
  refine jm_g_lt (pc := 1) C dX1_changed_1 ?_
  refine jr_iload_n (pc := 4) C dX1_changed_4 rfl ?_
  refine jm_l_lt (pc := 5) C (by omega) dX1_changed_5 ?_
  refine jr_aload_n (pc := 6) C dX1_changed_6 rfl ?_
  refine jm_g_he (pc := 7) C dX1_changed_7 ?_
  refine jr_bipush (pc := 10) (v := nI 16) C dX1_changed_10 (by decide) ?_
  refine jr_iload_n (pc := 12) C dX1_changed_12 rfl ?_
  refine jr_imulN (pc := 13) C dX1_changed_13 ?_
  refine jr_iload_n (pc := 14) C dX1_changed_14 rfl ?_
  refine jr_iaddN (pc := 15) C dX1_changed_15 ?_
  refine jm_l_he (pc := 16) C (by omega) dX1_changed_16 ?_
  refine jr_icmp_neB (tgt := 40) (pc := 17) C dX1_changed_17 (by decide) (fun c_17 => ?_) (fun c_17 => ?_)
  · refine jr_iconst (pc := 40) (v := jp_b true) C dX1_changed_40 (by decide) ?_
    refine jr_goto (tgt := 45) (pc := 41) C dX1_changed_41 (by decide) ?_
    refine hret _ _ _ _ dX1_changed_45 ?_
    refine ⟨?_, rfl⟩
    first
      | rw [jp_ne_f (jp_opt.mpr ⟨by rw [← hV.1, ← hL.1, c_17], by rw [← hV.2, ← hL.2, c_37]⟩)]
      | rw [jp_ne_t (fun q => c_37 (by rw [hV.2, hL.2, q]))]
      | rw [jp_ne_t (fun q => c_17 (by rw [hV.1, hL.1, q]))]
  · refine jr_aload_n (pc := 20) C dX1_changed_20 rfl ?_
    refine jm_g_li (pc := 21) C dX1_changed_21 ?_
    refine jr_iload_n (pc := 24) C dX1_changed_24 rfl ?_
    refine jm_l_li (pc := 25) C (by omega) dX1_changed_25 ?_
    refine jr_aload_n (pc := 26) C dX1_changed_26 rfl ?_
    refine jm_g_ct (pc := 27) C dX1_changed_27 ?_
    refine jr_bipush (pc := 30) (v := nI 16) C dX1_changed_30 (by decide) ?_
    refine jr_iload_n (pc := 32) C dX1_changed_32 rfl ?_
    refine jr_imulN (pc := 33) C dX1_changed_33 ?_
    refine jr_iload_n (pc := 34) C dX1_changed_34 rfl ?_
    refine jr_iaddN (pc := 35) C dX1_changed_35 ?_
    refine jm_l_ct (pc := 36) C (by omega) dX1_changed_36 ?_
    refine jr_icmp_eq (tgt := 44) (pc := 37) C dX1_changed_37 (by decide) (fun c_37 => ?_) (fun c_37 => ?_)
    · refine jr_iconst (pc := 44) (v := jp_b false) C dX1_changed_44 (by decide) ?_
      refine hret _ _ _ _ dX1_changed_45 ?_
      refine ⟨?_, rfl⟩
      first
        | rw [jp_ne_f (jp_opt.mpr ⟨by rw [← hV.1, ← hL.1, c_17], by rw [← hV.2, ← hL.2, c_37]⟩)]
        | rw [jp_ne_t (fun q => c_37 (by rw [hV.2, hL.2, q]))]
        | rw [jp_ne_t (fun q => c_17 (by rw [hV.1, hL.1, q]))]
    · refine jr_iconst (pc := 40) (v := jp_b true) C dX1_changed_40 (by decide) ?_
      refine jr_goto (tgt := 45) (pc := 41) C dX1_changed_41 (by decide) ?_
      refine hret _ _ _ _ dX1_changed_45 ?_
      refine ⟨?_, rfl⟩
      first
        | rw [jp_ne_f (jp_opt.mpr ⟨by rw [← hV.1, ← hL.1, c_17], by rw [← hV.2, ← hL.2, c_37]⟩)]
        | rw [jp_ne_t (fun q => c_37 (by rw [hV.2, hL.2, q]))]
        | rw [jp_ne_t (fun q => c_17 (by rw [hV.1, hL.1, q]))]
/-- back(p, f): the live file is now as point p holds it -/
theorem mM_back (hr : mr_R G lt li he ct dy pn) {p f : Nat} (hp : p < jg_n G) (hf : f < 16) : jw_Mv yX1_back cX1_back 3 0 D (tM cA) [.ref h, .int (nI p), .int (nI f)] (wM h ad cA (jg_td G) lt li (jg_n G) he ct dy pn kp) (fun w' => mw_K h ad cA kp (jg_sl G (va_up (jg_lv G) f (jg_V G p f))) w') := by
  refine jw_Mv.of (own := RX1) (by decide) rfl (Nat.le_of_ble_eq_true rfl) ?_
  intro E hE C hret
  subst hE
  show jw_J E 3 _ 0 [(0, .ref h), (1, .int (nI p)), (2, .int (nI f))] []
  have hn := mr_n hr
  have hV := mr_V hr hp hf
  refine jr_aload_n (pc := 0) C dX1_back_0 rfl ?_
  refine jm_g_lt (pc := 1) C dX1_back_1 ?_
  refine jr_iload_n (pc := 4) C dX1_back_4 rfl ?_
  refine jr_aload_n (pc := 5) C dX1_back_5 rfl ?_
  refine jm_g_he (pc := 6) C dX1_back_6 ?_
  refine jr_bipush (pc := 9) (v := nI 16) C dX1_back_9 (by decide) ?_
  refine jr_iload_n (pc := 11) C dX1_back_11 rfl ?_
  refine jr_imulN (pc := 12) C dX1_back_12 ?_
  refine jr_iload_n (pc := 13) C dX1_back_13 rfl ?_
  refine jr_iaddN (pc := 14) C dX1_back_14 ?_
  refine jm_l_he (pc := 15) C (by omega) dX1_back_15 ?_
  refine jm_s_lt (pc := 16) C (by omega) dX1_back_16 ?_
  refine jr_aload_n (pc := 17) C dX1_back_17 rfl ?_
  refine jm_g_li (pc := 18) C dX1_back_18 ?_
  refine jr_iload_n (pc := 21) C dX1_back_21 rfl ?_
  refine jr_aload_n (pc := 22) C dX1_back_22 rfl ?_
  refine jm_g_ct (pc := 23) C dX1_back_23 ?_
  refine jr_bipush (pc := 26) (v := nI 16) C dX1_back_26 (by decide) ?_
  refine jr_iload_n (pc := 28) C dX1_back_28 rfl ?_
  refine jr_imulN (pc := 29) C dX1_back_29 ?_
  refine jr_iload_n (pc := 30) C dX1_back_30 rfl ?_
  refine jr_iaddN (pc := 31) C dX1_back_31 ?_
  refine jm_l_ct (pc := 32) C (by omega) dX1_back_32 ?_
  refine jm_s_li (pc := 33) C (by omega) dX1_back_33 ?_
  exact hret _ _ _ dX1_back_34 ⟨_, _, _, _, _, _, rfl, mr_set hr hV.1 hV.2⟩
/-- differ(p, q, f) -/
theorem mM_differ (hr : mr_R G lt li he ct dy pn) {p q f : Nat} (hp : p < jg_n G) (hq : q < jg_n G) (hf : f < 16) : jw_Mi yX1_differ cX1_differ 4 (some .boolean) 0 D (tM cA) [.ref h, .int (nI p), .int (nI q), .int (nI f)] (wM h ad cA (jg_td G) lt li (jg_n G) he ct dy pn kp) (fun r w' => r = jp_b (jp_ne (jg_V G p f) (jg_V G q f)) ∧ w' = (wM h ad cA (jg_td G) lt li (jg_n G) he ct dy pn kp)) := by
  refine jw_Mi.of (own := RX1) (by decide) rfl (Nat.le_of_ble_eq_true rfl) (fun v w' hq => by rw [hq.1]; exact jp_nb _) ?_
  intro E hE C hret
  subst hE
  show jw_J E 4 _ 0 [(0, .ref h), (1, .int (nI p)), (2, .int (nI q)), (3, .int (nI f))] []
  have hn := mr_n hr
  have hV := mr_V hr hp hf
  have hL := mr_V hr hq hf
  refine jr_aload_n (pc := 0) C dX1_differ_0 rfl ?_
  refine jm_g_he (pc := 1) C dX1_differ_1 ?_
  refine jr_bipush (pc := 4) (v := nI 16) C dX1_differ_4 (by decide) ?_
  refine jr_iload_n (pc := 6) C dX1_differ_6 rfl ?_
  refine jr_imulN (pc := 7) C dX1_differ_7 ?_
  refine jr_iload_n (pc := 8) C dX1_differ_8 rfl ?_
  refine jr_iaddN (pc := 9) C dX1_differ_9 ?_
  refine jm_l_he (pc := 10) C (by omega) dX1_differ_10 ?_
  refine jr_aload_n (pc := 11) C dX1_differ_11 rfl ?_
  refine jm_g_he (pc := 12) C dX1_differ_12 ?_
  refine jr_bipush (pc := 15) (v := nI 16) C dX1_differ_15 (by decide) ?_
  refine jr_iload_n (pc := 17) C dX1_differ_17 rfl ?_
  refine jr_imulN (pc := 18) C dX1_differ_18 ?_
  refine jr_iload_n (pc := 19) C dX1_differ_19 rfl ?_
  refine jr_iaddN (pc := 20) C dX1_differ_20 ?_
  refine jm_l_he (pc := 21) C (by omega) dX1_differ_21 ?_
  refine jr_icmp_neB (tgt := 50) (pc := 22) C dX1_differ_22 (by decide) (fun c_22 => ?_) (fun c_22 => ?_)
  · refine jr_iconst (pc := 50) (v := jp_b true) C dX1_differ_50 (by decide) ?_
    refine jr_goto (tgt := 55) (pc := 51) C dX1_differ_51 (by decide) ?_
    refine hret _ _ _ _ dX1_differ_55 ?_
    refine ⟨?_, rfl⟩
    first
      | rw [jp_ne_f (jp_opt.mpr ⟨by rw [← hV.1, ← hL.1, c_22], by rw [← hV.2, ← hL.2, c_47]⟩)]
      | rw [jp_ne_t (fun q => c_47 (by rw [hV.2, hL.2, q]))]
      | rw [jp_ne_t (fun q => c_22 (by rw [hV.1, hL.1, q]))]
  · refine jr_aload_n (pc := 25) C dX1_differ_25 rfl ?_
    refine jm_g_ct (pc := 26) C dX1_differ_26 ?_
    refine jr_bipush (pc := 29) (v := nI 16) C dX1_differ_29 (by decide) ?_
    refine jr_iload_n (pc := 31) C dX1_differ_31 rfl ?_
    refine jr_imulN (pc := 32) C dX1_differ_32 ?_
    refine jr_iload_n (pc := 33) C dX1_differ_33 rfl ?_
    refine jr_iaddN (pc := 34) C dX1_differ_34 ?_
    refine jm_l_ct (pc := 35) C (by omega) dX1_differ_35 ?_
    refine jr_aload_n (pc := 36) C dX1_differ_36 rfl ?_
    refine jm_g_ct (pc := 37) C dX1_differ_37 ?_
    refine jr_bipush (pc := 40) (v := nI 16) C dX1_differ_40 (by decide) ?_
    refine jr_iload_n (pc := 42) C dX1_differ_42 rfl ?_
    refine jr_imulN (pc := 43) C dX1_differ_43 ?_
    refine jr_iload_n (pc := 44) C dX1_differ_44 rfl ?_
    refine jr_iaddN (pc := 45) C dX1_differ_45 ?_
    refine jm_l_ct (pc := 46) C (by omega) dX1_differ_46 ?_
    refine jr_icmp_eq (tgt := 54) (pc := 47) C dX1_differ_47 (by decide) (fun c_47 => ?_) (fun c_47 => ?_)
    · refine jr_iconst (pc := 54) (v := jp_b false) C dX1_differ_54 (by decide) ?_
      refine hret _ _ _ _ dX1_differ_55 ?_
      refine ⟨?_, rfl⟩
      first
        | rw [jp_ne_f (jp_opt.mpr ⟨by rw [← hV.1, ← hL.1, c_22], by rw [← hV.2, ← hL.2, c_47]⟩)]
        | rw [jp_ne_t (fun q => c_47 (by rw [hV.2, hL.2, q]))]
        | rw [jp_ne_t (fun q => c_22 (by rw [hV.1, hL.1, q]))]
    · refine jr_iconst (pc := 50) (v := jp_b true) C dX1_differ_50 (by decide) ?_
      refine jr_goto (tgt := 55) (pc := 51) C dX1_differ_51 (by decide) ?_
      refine hret _ _ _ _ dX1_differ_55 ?_
      refine ⟨?_, rfl⟩
      first
        | rw [jp_ne_f (jp_opt.mpr ⟨by rw [← hV.1, ← hL.1, c_22], by rw [← hV.2, ← hL.2, c_47]⟩)]
        | rw [jp_ne_t (fun q => c_47 (by rw [hV.2, hL.2, q]))]
        | rw [jp_ne_t (fun q => c_22 (by rw [hV.1, hL.1, q]))]
theorem mM_points (hr : mr_R G lt li he ct dy pn) : jw_Mi yX1_points cX1_points 1 (some .int) 0 D (tM cA) [.ref h] (wM h ad cA (jg_td G) lt li (jg_n G) he ct dy pn kp) (fun r w' => r = (sp_points G).1 ∧ mw_R h ad cA (sp_points G).2 w') := by
  refine jw_Mi.of (own := RX1) (by decide) rfl (Nat.le_of_ble_eq_true rfl) (fun _ _ _ => rfl) ?_
  intro E hE C hret
  subst hE
  show jw_J E 1 _ 0 [(0, .ref h)] []
  refine jr_aload_n (pc := 0) C dX1_points_0 rfl ?_
  refine jm_g_n (pc := 1) C dX1_points_1 ?_
  exact hret _ _ _ _ dX1_points_4 ⟨rfl, mw_in hr⟩
theorem mM_put (hr : mr_R G lt li he ct dy pn) (a : Int32) (c : Int32) : jw_Mi yX1_put cX1_put 4 (some .int) 1 D (tM cA) [.ref h, .int a, .int c] (wM h ad cA (jg_td G) lt li (jg_n G) he ct dy pn kp) (fun r w' => r = (sp_put a c G).1 ∧ mw_R h ad cA (sp_put a c G).2 w') := by
  have hn := mr_n hr
  cases hq : jp_ix a 16 with
  | none =>
    rw [show sp_put a c G = (-1, G) from by simp only [sp_put, hq]]
    refine jw_Mi.of (own := RX1) (by decide) rfl (Nat.le_of_ble_eq_true rfl) (fun _ _ _ => rfl) ?_
    intro E hE C hret
    subst hE
    show jw_J E 4 _ 0 [(0, .ref h), (1, .int a), (2, .int c)] []
    refine jr_aload_n (pc := 0) C dX1_put_0 rfl ?_
    refine jr_iload_n (pc := 1) C dX1_put_1 rfl ?_
    refine jr_calli (pc := 2) C gw_X1_36 ok_X1_badFile (mM_badFile _) rfl (by decide) (by decide) rfl rfl dX1_put_2 rfl (Nat.le_of_ble_eq_true rfl) ?_
    rintro _ _ ⟨rfl, rfl⟩
    refine jr_if_eqB (tgt := 10) (pc := 5) C dX1_put_5 (by decide) (fun c_5 => ?_) (fun c_5 => ?_)
    · simp [hq] at c_5
    · refine jr_iconst (pc := 8) (v := (-1)) C dX1_put_8 (by decide) ?_
      exact hret _ _ _ _ dX1_put_9 ⟨rfl, mw_in hr⟩
  | some f =>
    obtain ⟨hf, rfl⟩ := jp_ix_some hq
    rw [show sp_put (nI f) c G = (jp_b (jg_lv G f).isSome, jg_sl G (va_up (jg_lv G) f (some c))) from by simp only [sp_put, hq]]
    have hL := mr_lv hr hf
    refine jw_Mi.of (own := RX1) (by decide) rfl (Nat.le_of_ble_eq_true rfl) (fun _ _ _ => rfl) ?_
    intro E hE C hret
    subst hE
    show jw_J E 4 _ 0 [(0, .ref h), (1, .int (nI f)), (2, .int c)] []
    refine jr_aload_n (pc := 0) C dX1_put_0 rfl ?_
    refine jr_iload_n (pc := 1) C dX1_put_1 rfl ?_
    refine jr_calli (pc := 2) C gw_X1_36 ok_X1_badFile (mM_badFile _) rfl (by decide) (by decide) rfl rfl dX1_put_2 rfl (Nat.le_of_ble_eq_true rfl) ?_
    rintro _ _ ⟨rfl, rfl⟩
    refine jr_if_eqB (tgt := 10) (pc := 5) C dX1_put_5 (by decide) (fun c_5 => ?_) (fun c_5 => ?_)
    · refine jr_aload_n (pc := 10) C dX1_put_10 rfl ?_
      refine jm_g_lt (pc := 11) C dX1_put_11 ?_
      refine jr_iload_n (pc := 14) C dX1_put_14 rfl ?_
      refine jm_l_lt (pc := 15) C (by omega) dX1_put_15 ?_
      refine jr_if_eqB (tgt := 23) (pc := 16) C dX1_put_16 (by decide) (fun c_16 => ?_) (fun c_16 => ?_)
      · refine jr_iconst (pc := 23) (v := jp_b false) C dX1_put_23 (by decide) ?_
        refine jr_istore_n (pc := 24) C dX1_put_24 (by decide) rfl ?_
        refine jr_aload_n (pc := 25) C dX1_put_25 rfl ?_
        refine jm_g_lt (pc := 26) C dX1_put_26 ?_
        refine jr_iload_n (pc := 29) C dX1_put_29 rfl ?_
        refine jr_iconst (pc := 30) (v := jp_b true) C dX1_put_30 (by decide) ?_
        refine jm_s_lt (pc := 31) C (by omega) dX1_put_31 ?_
        refine jr_aload_n (pc := 32) C dX1_put_32 rfl ?_
        refine jm_g_li (pc := 33) C dX1_put_33 ?_
        refine jr_iload_n (pc := 36) C dX1_put_36 rfl ?_
        refine jr_iload_n (pc := 37) C dX1_put_37 rfl ?_
        refine jm_s_li (pc := 38) C (by omega) dX1_put_38 ?_
        refine jr_iload_n (pc := 39) C dX1_put_39 rfl ?_
        exact hret _ _ _ _ dX1_put_40 ⟨by rw [← hL.1, c_16], kp, _, _, _, _, _, _, rfl, mr_set hr rfl rfl⟩
      · refine jr_iconst (pc := 19) (v := jp_b true) C dX1_put_19 (by decide) ?_
        refine jr_goto (tgt := 24) (pc := 20) C dX1_put_20 (by decide) ?_
        refine jr_istore_n (pc := 24) C dX1_put_24 (by decide) rfl ?_
        refine jr_aload_n (pc := 25) C dX1_put_25 rfl ?_
        refine jm_g_lt (pc := 26) C dX1_put_26 ?_
        refine jr_iload_n (pc := 29) C dX1_put_29 rfl ?_
        refine jr_iconst (pc := 30) (v := jp_b true) C dX1_put_30 (by decide) ?_
        refine jm_s_lt (pc := 31) C (by omega) dX1_put_31 ?_
        refine jr_aload_n (pc := 32) C dX1_put_32 rfl ?_
        refine jm_g_li (pc := 33) C dX1_put_33 ?_
        refine jr_iload_n (pc := 36) C dX1_put_36 rfl ?_
        refine jr_iload_n (pc := 37) C dX1_put_37 rfl ?_
        refine jm_s_li (pc := 38) C (by omega) dX1_put_38 ?_
        refine jr_iload_n (pc := 39) C dX1_put_39 rfl ?_
        exact hret _ _ _ _ dX1_put_40 ⟨by rw [← hL.1, c_16], kp, _, _, _, _, _, _, rfl, mr_set hr rfl rfl⟩
    · simp [hq] at c_5
theorem mM_delete (hr : mr_R G lt li he ct dy pn) (a : Int32) : jw_Mi yX1_delete cX1_delete 3 (some .int) 1 D (tM cA) [.ref h, .int a] (wM h ad cA (jg_td G) lt li (jg_n G) he ct dy pn kp) (fun r w' => r = (sp_delete a G).1 ∧ mw_R h ad cA (sp_delete a G).2 w') := by
  have hn := mr_n hr
  cases hq : jp_ix a 16 with
  | none =>
    rw [show sp_delete a G = (-1, G) from by simp only [sp_delete, hq]]
    refine jw_Mi.of (own := RX1) (by decide) rfl (Nat.le_of_ble_eq_true rfl) (fun _ _ _ => rfl) ?_
    intro E hE C hret
    subst hE
    show jw_J E 3 _ 0 [(0, .ref h), (1, .int a)] []
    refine jr_aload_n (pc := 0) C dX1_delete_0 rfl ?_
    refine jr_iload_n (pc := 1) C dX1_delete_1 rfl ?_
    refine jr_calli (pc := 2) C gw_X1_36 ok_X1_badFile (mM_badFile _) rfl (by decide) (by decide) rfl rfl dX1_delete_2 rfl (Nat.le_of_ble_eq_true rfl) ?_
    rintro _ _ ⟨rfl, rfl⟩
    refine jr_if_eqB (tgt := 10) (pc := 5) C dX1_delete_5 (by decide) (fun c_5 => ?_) (fun c_5 => ?_)
    · simp [hq] at c_5
    · refine jr_iconst (pc := 8) (v := (-1)) C dX1_delete_8 (by decide) ?_
      exact hret _ _ _ _ dX1_delete_9 ⟨rfl, mw_in hr⟩
  | some f =>
    obtain ⟨hf, rfl⟩ := jp_ix_some hq
    rw [show sp_delete (nI f) G = (jp_b (jg_lv G f).isSome, jg_sl G (va_up (jg_lv G) f (none))) from by simp only [sp_delete, hq]]
    have hL := mr_lv hr hf
    refine jw_Mi.of (own := RX1) (by decide) rfl (Nat.le_of_ble_eq_true rfl) (fun _ _ _ => rfl) ?_
    intro E hE C hret
    subst hE
    show jw_J E 3 _ 0 [(0, .ref h), (1, .int (nI f))] []
    refine jr_aload_n (pc := 0) C dX1_delete_0 rfl ?_
    refine jr_iload_n (pc := 1) C dX1_delete_1 rfl ?_
    refine jr_calli (pc := 2) C gw_X1_36 ok_X1_badFile (mM_badFile _) rfl (by decide) (by decide) rfl rfl dX1_delete_2 rfl (Nat.le_of_ble_eq_true rfl) ?_
    rintro _ _ ⟨rfl, rfl⟩
    refine jr_if_eqB (tgt := 10) (pc := 5) C dX1_delete_5 (by decide) (fun c_5 => ?_) (fun c_5 => ?_)
    · refine jr_aload_n (pc := 10) C dX1_delete_10 rfl ?_
      refine jm_g_lt (pc := 11) C dX1_delete_11 ?_
      refine jr_iload_n (pc := 14) C dX1_delete_14 rfl ?_
      refine jm_l_lt (pc := 15) C (by omega) dX1_delete_15 ?_
      refine jr_if_eqB (tgt := 23) (pc := 16) C dX1_delete_16 (by decide) (fun c_16 => ?_) (fun c_16 => ?_)
      · refine jr_iconst (pc := 23) (v := jp_b false) C dX1_delete_23 (by decide) ?_
        refine jr_istore_n (pc := 24) C dX1_delete_24 (by decide) rfl ?_
        refine jr_aload_n (pc := 25) C dX1_delete_25 rfl ?_
        refine jm_g_lt (pc := 26) C dX1_delete_26 ?_
        refine jr_iload_n (pc := 29) C dX1_delete_29 rfl ?_
        refine jr_iconst (pc := 30) (v := jp_b false) C dX1_delete_30 (by decide) ?_
        refine jm_s_lt (pc := 31) C (by omega) dX1_delete_31 ?_
        refine jr_aload_n (pc := 32) C dX1_delete_32 rfl ?_
        refine jm_g_li (pc := 33) C dX1_delete_33 ?_
        refine jr_iload_n (pc := 36) C dX1_delete_36 rfl ?_
        refine jr_iconst (pc := 37) (v := nI 0) C dX1_delete_37 (by decide) ?_
        refine jm_s_li (pc := 38) C (by omega) dX1_delete_38 ?_
        refine jr_iload_n (pc := 39) C dX1_delete_39 rfl ?_
        exact hret _ _ _ _ dX1_delete_40 ⟨by rw [← hL.1, c_16], kp, _, _, _, _, _, _, rfl, mr_set hr rfl rfl⟩
      · refine jr_iconst (pc := 19) (v := jp_b true) C dX1_delete_19 (by decide) ?_
        refine jr_goto (tgt := 24) (pc := 20) C dX1_delete_20 (by decide) ?_
        refine jr_istore_n (pc := 24) C dX1_delete_24 (by decide) rfl ?_
        refine jr_aload_n (pc := 25) C dX1_delete_25 rfl ?_
        refine jm_g_lt (pc := 26) C dX1_delete_26 ?_
        refine jr_iload_n (pc := 29) C dX1_delete_29 rfl ?_
        refine jr_iconst (pc := 30) (v := jp_b false) C dX1_delete_30 (by decide) ?_
        refine jm_s_lt (pc := 31) C (by omega) dX1_delete_31 ?_
        refine jr_aload_n (pc := 32) C dX1_delete_32 rfl ?_
        refine jm_g_li (pc := 33) C dX1_delete_33 ?_
        refine jr_iload_n (pc := 36) C dX1_delete_36 rfl ?_
        refine jr_iconst (pc := 37) (v := nI 0) C dX1_delete_37 (by decide) ?_
        refine jm_s_li (pc := 38) C (by omega) dX1_delete_38 ?_
        refine jr_iload_n (pc := 39) C dX1_delete_39 rfl ?_
        exact hret _ _ _ _ dX1_delete_40 ⟨by rw [← hL.1, c_16], kp, _, _, _, _, _, _, rfl, mr_set hr rfl rfl⟩
    · simp [hq] at c_5
theorem mM_rename (hr : mr_R G lt li he ct dy pn) (a : Int32) (b : Int32) : jw_Mi yX1_rename cX1_rename 3 (some .int) 1 D (tM cA) [.ref h, .int a, .int b] (wM h ad cA (jg_td G) lt li (jg_n G) he ct dy pn kp) (fun r w' => r = (sp_rename a b G).1 ∧ mw_R h ad cA (sp_rename a b G).2 w') := by
  have hn := mr_n hr
  cases hq : jp_ix a 16 with
  | none =>
    rw [show sp_rename a b G = (-1, G) from by simp only [sp_rename, hq]]
    refine jw_Mi.of (own := RX1) (by decide) rfl (Nat.le_of_ble_eq_true rfl) (fun _ _ _ => rfl) ?_
    intro E hE C hret
    subst hE
    show jw_J E 3 _ 0 [(0, .ref h), (1, .int a), (2, .int b)] []
    refine jr_aload_n (pc := 0) C dX1_rename_0 rfl ?_
    refine jr_iload_n (pc := 1) C dX1_rename_1 rfl ?_
    refine jr_calli (pc := 2) C gw_X1_36 ok_X1_badFile (mM_badFile _) rfl (by decide) (by decide) rfl rfl dX1_rename_2 rfl (Nat.le_of_ble_eq_true rfl) ?_
    rintro _ _ ⟨rfl, rfl⟩
    refine jr_if_neB (tgt := 16) (pc := 5) C dX1_rename_5 (by decide) (fun c_5 => ?_) (fun c_5 => ?_)
    · refine jr_iconst (pc := 16) (v := (-1)) C dX1_rename_16 (by decide) ?_
      exact hret _ _ _ _ dX1_rename_17 ⟨rfl, mw_in hr⟩
    · simp [hq] at c_5
  | some f =>
    obtain ⟨hf, rfl⟩ := jp_ix_some hq
    cases hq2 : jp_ix b 16 with
    | none =>
      rw [show sp_rename (nI f) b G = (-1, G) from by simp only [sp_rename, hq, hq2]]
      refine jw_Mi.of (own := RX1) (by decide) rfl (Nat.le_of_ble_eq_true rfl) (fun _ _ _ => rfl) ?_
      intro E hE C hret
      subst hE
      show jw_J E 3 _ 0 [(0, .ref h), (1, .int (nI f)), (2, .int b)] []
      refine jr_aload_n (pc := 0) C dX1_rename_0 rfl ?_
      refine jr_iload_n (pc := 1) C dX1_rename_1 rfl ?_
      refine jr_calli (pc := 2) C gw_X1_36 ok_X1_badFile (mM_badFile _) rfl (by decide) (by decide) rfl rfl dX1_rename_2 rfl (Nat.le_of_ble_eq_true rfl) ?_
      rintro _ _ ⟨rfl, rfl⟩
      refine jr_if_neB (tgt := 16) (pc := 5) C dX1_rename_5 (by decide) (fun c_5 => ?_) (fun c_5 => ?_)
      · simp [hq] at c_5
      · refine jr_aload_n (pc := 8) C dX1_rename_8 rfl ?_
        refine jr_iload_n (pc := 9) C dX1_rename_9 rfl ?_
        refine jr_calli (pc := 10) C gw_X1_36 ok_X1_badFile (mM_badFile _) rfl (by decide) (by decide) rfl rfl dX1_rename_10 rfl (Nat.le_of_ble_eq_true rfl) ?_
        rintro _ _ ⟨rfl, rfl⟩
        refine jr_if_eqB (tgt := 18) (pc := 13) C dX1_rename_13 (by decide) (fun c_13 => ?_) (fun c_13 => ?_)
        · simp [hq2] at c_13
        · refine jr_iconst (pc := 16) (v := (-1)) C dX1_rename_16 (by decide) ?_
          exact hret _ _ _ _ dX1_rename_17 ⟨rfl, mw_in hr⟩
    | some g =>
      obtain ⟨hg, rfl⟩ := jp_ix_some hq2
      have hL := mr_lv hr hf
      by_cases hfg : f = g
      · rw [show sp_rename (nI f) (nI g) G = (-2, G) from by simp only [sp_rename, hq, hq2, hfg, if_true]]
        refine jw_Mi.of (own := RX1) (by decide) rfl (Nat.le_of_ble_eq_true rfl) (fun _ _ _ => rfl) ?_
        intro E hE C hret
        subst hE
        show jw_J E 3 _ 0 [(0, .ref h), (1, .int (nI f)), (2, .int (nI g))] []
        refine jr_aload_n (pc := 0) C dX1_rename_0 rfl ?_
        refine jr_iload_n (pc := 1) C dX1_rename_1 rfl ?_
        refine jr_calli (pc := 2) C gw_X1_36 ok_X1_badFile (mM_badFile _) rfl (by decide) (by decide) rfl rfl dX1_rename_2 rfl (Nat.le_of_ble_eq_true rfl) ?_
        rintro _ _ ⟨rfl, rfl⟩
        refine jr_if_neB (tgt := 16) (pc := 5) C dX1_rename_5 (by decide) (fun c_5 => ?_) (fun c_5 => ?_)
        · simp [hq] at c_5
        · refine jr_aload_n (pc := 8) C dX1_rename_8 rfl ?_
          refine jr_iload_n (pc := 9) C dX1_rename_9 rfl ?_
          refine jr_calli (pc := 10) C gw_X1_36 ok_X1_badFile (mM_badFile _) rfl (by decide) (by decide) rfl rfl dX1_rename_10 rfl (Nat.le_of_ble_eq_true rfl) ?_
          rintro _ _ ⟨rfl, rfl⟩
          refine jr_if_eqB (tgt := 18) (pc := 13) C dX1_rename_13 (by decide) (fun c_13 => ?_) (fun c_13 => ?_)
          · refine jr_iload_n (pc := 18) C dX1_rename_18 rfl ?_
            refine jr_iload_n (pc := 19) C dX1_rename_19 rfl ?_
            refine jr_icmp_neN (tgt := 26) (pc := 20) C dX1_rename_20 (by decide) (by omega) (by omega) (fun c_20 => ?_) (fun c_20 => ?_)
            · exact absurd hfg c_20
            · refine jr_bipush (pc := 23) (v := (-2)) C dX1_rename_23 (by decide) ?_
              exact hret _ _ _ _ dX1_rename_25 ⟨rfl, mw_in hr⟩
          · simp [hq2] at c_13
      · cases hb : jg_lv G f with
        | none =>
          rw [hb] at hL
          rw [show sp_rename (nI f) (nI g) G = (-3, G) from by simp only [sp_rename, hq, hq2, if_neg hfg, hb]]
          refine jw_Mi.of (own := RX1) (by decide) rfl (Nat.le_of_ble_eq_true rfl) (fun _ _ _ => rfl) ?_
          intro E hE C hret
          subst hE
          show jw_J E 3 _ 0 [(0, .ref h), (1, .int (nI f)), (2, .int (nI g))] []
          refine jr_aload_n (pc := 0) C dX1_rename_0 rfl ?_
          refine jr_iload_n (pc := 1) C dX1_rename_1 rfl ?_
          refine jr_calli (pc := 2) C gw_X1_36 ok_X1_badFile (mM_badFile _) rfl (by decide) (by decide) rfl rfl dX1_rename_2 rfl (Nat.le_of_ble_eq_true rfl) ?_
          rintro _ _ ⟨rfl, rfl⟩
          refine jr_if_neB (tgt := 16) (pc := 5) C dX1_rename_5 (by decide) (fun c_5 => ?_) (fun c_5 => ?_)
          · simp [hq] at c_5
          · refine jr_aload_n (pc := 8) C dX1_rename_8 rfl ?_
            refine jr_iload_n (pc := 9) C dX1_rename_9 rfl ?_
            refine jr_calli (pc := 10) C gw_X1_36 ok_X1_badFile (mM_badFile _) rfl (by decide) (by decide) rfl rfl dX1_rename_10 rfl (Nat.le_of_ble_eq_true rfl) ?_
            rintro _ _ ⟨rfl, rfl⟩
            refine jr_if_eqB (tgt := 18) (pc := 13) C dX1_rename_13 (by decide) (fun c_13 => ?_) (fun c_13 => ?_)
            · refine jr_iload_n (pc := 18) C dX1_rename_18 rfl ?_
              refine jr_iload_n (pc := 19) C dX1_rename_19 rfl ?_
              refine jr_icmp_neN (tgt := 26) (pc := 20) C dX1_rename_20 (by decide) (by omega) (by omega) (fun c_20 => ?_) (fun c_20 => ?_)
              · refine jr_aload_n (pc := 26) C dX1_rename_26 rfl ?_
                refine jm_g_lt (pc := 27) C dX1_rename_27 ?_
                refine jr_iload_n (pc := 30) C dX1_rename_30 rfl ?_
                refine jm_l_lt (pc := 31) C (by omega) dX1_rename_31 ?_
                refine jr_if_neB (tgt := 38) (pc := 32) C dX1_rename_32 (by decide) (fun c_32 => ?_) (fun c_32 => ?_)
                · rw [hL.1] at c_32; cases c_32
                · refine jr_bipush (pc := 35) (v := (-3)) C dX1_rename_35 (by decide) ?_
                  exact hret _ _ _ _ dX1_rename_37 ⟨rfl, mw_in hr⟩
              · exact absurd c_20 hfg
            · simp [hq2] at c_13
        | some c =>
          rw [hb] at hL
          rw [show sp_rename (nI f) (nI g) G = (0, jg_sl G (va_up (va_up (jg_lv G) g (some c)) f none)) from by simp only [sp_rename, hq, hq2, if_neg hfg, hb]]
          refine jw_Mi.of (own := RX1) (by decide) rfl (Nat.le_of_ble_eq_true rfl) (fun _ _ _ => rfl) ?_
          intro E hE C hret
          subst hE
          show jw_J E 3 _ 0 [(0, .ref h), (1, .int (nI f)), (2, .int (nI g))] []
          refine jr_aload_n (pc := 0) C dX1_rename_0 rfl ?_
          refine jr_iload_n (pc := 1) C dX1_rename_1 rfl ?_
          refine jr_calli (pc := 2) C gw_X1_36 ok_X1_badFile (mM_badFile _) rfl (by decide) (by decide) rfl rfl dX1_rename_2 rfl (Nat.le_of_ble_eq_true rfl) ?_
          rintro _ _ ⟨rfl, rfl⟩
          refine jr_if_neB (tgt := 16) (pc := 5) C dX1_rename_5 (by decide) (fun c_5 => ?_) (fun c_5 => ?_)
          · simp [hq] at c_5
          · refine jr_aload_n (pc := 8) C dX1_rename_8 rfl ?_
            refine jr_iload_n (pc := 9) C dX1_rename_9 rfl ?_
            refine jr_calli (pc := 10) C gw_X1_36 ok_X1_badFile (mM_badFile _) rfl (by decide) (by decide) rfl rfl dX1_rename_10 rfl (Nat.le_of_ble_eq_true rfl) ?_
            rintro _ _ ⟨rfl, rfl⟩
            refine jr_if_eqB (tgt := 18) (pc := 13) C dX1_rename_13 (by decide) (fun c_13 => ?_) (fun c_13 => ?_)
            · refine jr_iload_n (pc := 18) C dX1_rename_18 rfl ?_
              refine jr_iload_n (pc := 19) C dX1_rename_19 rfl ?_
              refine jr_icmp_neN (tgt := 26) (pc := 20) C dX1_rename_20 (by decide) (by omega) (by omega) (fun c_20 => ?_) (fun c_20 => ?_)
              · refine jr_aload_n (pc := 26) C dX1_rename_26 rfl ?_
                refine jm_g_lt (pc := 27) C dX1_rename_27 ?_
                refine jr_iload_n (pc := 30) C dX1_rename_30 rfl ?_
                refine jm_l_lt (pc := 31) C (by omega) dX1_rename_31 ?_
                refine jr_if_neB (tgt := 38) (pc := 32) C dX1_rename_32 (by decide) (fun c_32 => ?_) (fun c_32 => ?_)
                · refine jr_aload_n (pc := 38) C dX1_rename_38 rfl ?_
                  refine jm_g_lt (pc := 39) C dX1_rename_39 ?_
                  refine jr_iload_n (pc := 42) C dX1_rename_42 rfl ?_
                  refine jr_iconst (pc := 43) (v := nI 1) C dX1_rename_43 (by decide) ?_
                  refine jr_top (show nI 1 = jp_b true from by decide) ?_
                  refine jm_s_lt (pc := 44) C (by omega) dX1_rename_44 ?_
                  refine jr_aload_n (pc := 45) C dX1_rename_45 rfl ?_
                  refine jm_g_li (pc := 46) C dX1_rename_46 ?_
                  refine jr_iload_n (pc := 49) C dX1_rename_49 rfl ?_
                  refine jr_aload_n (pc := 50) C dX1_rename_50 rfl ?_
                  refine jm_g_li (pc := 51) C dX1_rename_51 ?_
                  refine jr_iload_n (pc := 54) C dX1_rename_54 rfl ?_
                  refine jm_l_li (pc := 55) C (by omega) dX1_rename_55 ?_
                  refine jm_s_li (pc := 56) C (by omega) dX1_rename_56 ?_
                  refine jr_aload_n (pc := 57) C dX1_rename_57 rfl ?_
                  refine jm_g_lt (pc := 58) C dX1_rename_58 ?_
                  refine jr_iload_n (pc := 61) C dX1_rename_61 rfl ?_
                  refine jr_iconst (pc := 62) (v := nI 0) C dX1_rename_62 (by decide) ?_
                  refine jr_top (show nI 0 = jp_b false from by decide) ?_
                  refine jm_s_lt (pc := 63) C (by omega) dX1_rename_63 ?_
                  refine jr_aload_n (pc := 64) C dX1_rename_64 rfl ?_
                  refine jm_g_li (pc := 65) C dX1_rename_65 ?_
                  refine jr_iload_n (pc := 68) C dX1_rename_68 rfl ?_
                  refine jr_iconst (pc := 69) (v := nI 0) C dX1_rename_69 (by decide) ?_
                  refine jm_s_li (pc := 70) C (by omega) dX1_rename_70 ?_
                  refine jr_iconst (pc := 71) (v := nI 0) C dX1_rename_71 (by decide) ?_
                  exact hret _ _ _ _ dX1_rename_72 ⟨rfl, kp, _, _, _, _, _, _, rfl, mr_set (mr_set hr (v := some c) rfl hL.2) rfl rfl⟩
                · rw [hL.1] at c_32; cases c_32
              · exact absurd c_20 hfg
            · simp [hq2] at c_13
theorem mM_advance (hr : mr_R G lt li he ct dy pn) (a : Int32) : jw_Mi yX1_advance cX1_advance 2 (some .int) 0 D (tM cA) [.ref h, .int a] (wM h ad cA (jg_td G) lt li (jg_n G) he ct dy pn kp) (fun r w' => r = (sp_advance a G).1 ∧ mw_R h ad cA (sp_advance a G).2 w') := by
  have hn := mr_n hr
  have htd := mr_td hr
  cases hq : jp_ix a 61 with
  | none =>
    rw [show sp_advance a G = (-1, G) from by simp only [sp_advance, hq]]
    refine jw_Mi.of (own := RX1) (by decide) rfl (Nat.le_of_ble_eq_true rfl) (fun _ _ _ => rfl) ?_
    intro E hE C hret
    subst hE
    show jw_J E 2 _ 0 [(0, .ref h), (1, .int a)] []
    refine jr_iload_n (pc := 0) C dX1_advance_0 rfl ?_
    refine jr_iconst (pc := 1) (v := nI 1) C dX1_advance_1 (by decide) ?_
    refine jr_icmp_lt (tgt := 11) (pc := 2) C dX1_advance_2 (by decide) (fun c_2 => ?_) (fun c_2 => ?_)
    · refine jr_iconst (pc := 11) (v := (-1)) C dX1_advance_11 (by decide) ?_
      exact hret _ _ _ _ dX1_advance_12 ⟨rfl, mw_in hr⟩
    · refine jr_iload_n (pc := 5) C dX1_advance_5 rfl ?_
      refine jr_bipush (pc := 6) (v := nI 60) C dX1_advance_6 (by decide) ?_
      refine jr_icmp_le (tgt := 13) (pc := 8) C dX1_advance_8 (by decide) (fun c_8 => ?_) (fun c_8 => ?_)
      · exact absurd c_8 (fun q => jp_ix_abs (m := 60) rfl (by omega) hq (fun z => c_2 (Int32.lt_trans z (by decide))) q)
      · refine jr_iconst (pc := 11) (v := (-1)) C dX1_advance_11 (by decide) ?_
        exact hret _ _ _ _ dX1_advance_12 ⟨rfl, mw_in hr⟩
  | some k =>
    obtain ⟨hk, rfl⟩ := jp_ix_some hq
    by_cases hk0 : k = 0
    · rw [show sp_advance (nI k) G = (-1, G) from by simp only [sp_advance, hq, if_pos hk0]]
      refine jw_Mi.of (own := RX1) (by decide) rfl (Nat.le_of_ble_eq_true rfl) (fun _ _ _ => rfl) ?_
      intro E hE C hret
      subst hE
      show jw_J E 2 _ 0 [(0, .ref h), (1, .int (nI k))] []
      refine jr_iload_n (pc := 0) C dX1_advance_0 rfl ?_
      refine jr_iconst (pc := 1) (v := nI 1) C dX1_advance_1 (by decide) ?_
      refine jr_icmp_ltN (tgt := 11) (pc := 2) C dX1_advance_2 (by decide) (by omega) (by omega) (fun c_2 => ?_) (fun c_2 => ?_)
      · refine jr_iconst (pc := 11) (v := (-1)) C dX1_advance_11 (by decide) ?_
        exact hret _ _ _ _ dX1_advance_12 ⟨rfl, mw_in hr⟩
      · exfalso; omega
    · by_cases h5 : 5000 < jg_td G + k
      · rw [show sp_advance (nI k) G = (-2, G) from by simp only [sp_advance, hq, if_neg hk0, if_pos h5]]
        refine jw_Mi.of (own := RX1) (by decide) rfl (Nat.le_of_ble_eq_true rfl) (fun _ _ _ => rfl) ?_
        intro E hE C hret
        subst hE
        show jw_J E 2 _ 0 [(0, .ref h), (1, .int (nI k))] []
        refine jr_iload_n (pc := 0) C dX1_advance_0 rfl ?_
        refine jr_iconst (pc := 1) (v := nI 1) C dX1_advance_1 (by decide) ?_
        refine jr_icmp_ltN (tgt := 11) (pc := 2) C dX1_advance_2 (by decide) (by omega) (by omega) (fun c_2 => ?_) (fun c_2 => ?_)
        · exfalso; omega
        · refine jr_iload_n (pc := 5) C dX1_advance_5 rfl ?_
          refine jr_bipush (pc := 6) (v := nI 60) C dX1_advance_6 (by decide) ?_
          refine jr_icmp_leN (tgt := 13) (pc := 8) C dX1_advance_8 (by decide) (by omega) (by omega) (fun c_8 => ?_) (fun c_8 => ?_)
          · refine jr_aload_n (pc := 13) C dX1_advance_13 rfl ?_
            refine jm_g_td (pc := 14) C dX1_advance_14 ?_
            refine jr_iload_n (pc := 17) C dX1_advance_17 rfl ?_
            refine jr_iaddN (pc := 18) C dX1_advance_18 ?_
            refine jr_sipush (pc := 19) (v := nI 5000) C dX1_advance_19 (by decide) ?_
            refine jr_icmp_leN (tgt := 28) (pc := 22) C dX1_advance_22 (by decide) (by omega) (by omega) (fun c_22 => ?_) (fun c_22 => ?_)
            · exfalso; omega
            · refine jr_bipush (pc := 25) (v := (-2)) C dX1_advance_25 (by decide) ?_
              exact hret _ _ _ _ dX1_advance_27 ⟨rfl, mw_in hr⟩
          · exfalso; omega
      · rw [show sp_advance (nI k) G = (nI (jg_td G + k), (jg_lv G, jg_n G, jg_V G, jg_dv G, jg_pv G, jg_td G + k)) from by simp only [sp_advance, hq, if_neg hk0, if_neg h5]]
        refine jw_Mi.of (own := RX1) (by decide) rfl (Nat.le_of_ble_eq_true rfl) (fun _ _ _ => rfl) ?_
        intro E hE C hret
        subst hE
        show jw_J E 2 _ 0 [(0, .ref h), (1, .int (nI k))] []
        refine jr_iload_n (pc := 0) C dX1_advance_0 rfl ?_
        refine jr_iconst (pc := 1) (v := nI 1) C dX1_advance_1 (by decide) ?_
        refine jr_icmp_ltN (tgt := 11) (pc := 2) C dX1_advance_2 (by decide) (by omega) (by omega) (fun c_2 => ?_) (fun c_2 => ?_)
        · exfalso; omega
        · refine jr_iload_n (pc := 5) C dX1_advance_5 rfl ?_
          refine jr_bipush (pc := 6) (v := nI 60) C dX1_advance_6 (by decide) ?_
          refine jr_icmp_leN (tgt := 13) (pc := 8) C dX1_advance_8 (by decide) (by omega) (by omega) (fun c_8 => ?_) (fun c_8 => ?_)
          · refine jr_aload_n (pc := 13) C dX1_advance_13 rfl ?_
            refine jm_g_td (pc := 14) C dX1_advance_14 ?_
            refine jr_iload_n (pc := 17) C dX1_advance_17 rfl ?_
            refine jr_iaddN (pc := 18) C dX1_advance_18 ?_
            refine jr_sipush (pc := 19) (v := nI 5000) C dX1_advance_19 (by decide) ?_
            refine jr_icmp_leN (tgt := 28) (pc := 22) C dX1_advance_22 (by decide) (by omega) (by omega) (fun c_22 => ?_) (fun c_22 => ?_)
            · refine jr_aload_n (pc := 28) C dX1_advance_28 rfl ?_
              refine jr_dup (pc := 29) C dX1_advance_29 rfl ?_
              refine jm_g_td (pc := 30) C dX1_advance_30 ?_
              refine jr_iload_n (pc := 33) C dX1_advance_33 rfl ?_
              refine jr_iaddN (pc := 34) C dX1_advance_34 ?_
              refine jm_p_td (pc := 35) C dX1_advance_35 ?_
              refine jr_aload_n (pc := 38) C dX1_advance_38 rfl ?_
              refine jm_g_td (pc := 39) C dX1_advance_39 ?_
              refine hret _ _ _ _ dX1_advance_42 ?_
              refine ⟨rfl, kp, lt, li, he, ct, dy, pn, rfl, ?_⟩
              obtain ⟨a1, a2, a3, a4, a5, a6⟩ := hr
              exact ⟨a1, Nat.not_lt.mp h5, fun p hp => ⟨(a3 p hp).1, (a3 p hp).2.1, Nat.le_trans (a3 p hp).2.2 (Nat.le_add_right _ _)⟩, a4, a5, a6⟩
            · exfalso; omega
          · exfalso; omega
theorem mM_restoreFile (hr : mr_R G lt li he ct dy pn) (a : Int32) (b : Int32) : jw_Mi yX1_restoreFile cX1_restoreFile 4 (some .int) 1 D (tM cA) [.ref h, .int a, .int b] (wM h ad cA (jg_td G) lt li (jg_n G) he ct dy pn kp) (fun r w' => r = (sp_restoreFile a b G).1 ∧ mw_R h ad cA (sp_restoreFile a b G).2 w') := by
  have hn := mr_n hr
  cases hq : jp_ix a (jg_n G) with
  | none =>
    rw [show sp_restoreFile a b G = (-1, G) from by simp only [sp_restoreFile, hq]]
    refine jw_Mi.of (own := RX1) (by decide) rfl (Nat.le_of_ble_eq_true rfl) (fun _ _ _ => rfl) ?_
    intro E hE C hret
    subst hE
    show jw_J E 4 _ 0 [(0, .ref h), (1, .int a), (2, .int b)] []
    refine jr_aload_n (pc := 0) C dX1_restoreFile_0 rfl ?_
    refine jr_iload_n (pc := 1) C dX1_restoreFile_1 rfl ?_
    refine jr_calli (pc := 2) C gw_X1_43 ok_X1_badPoint (mM_badPoint _ (by omega)) rfl (by decide) (by decide) rfl rfl dX1_restoreFile_2 rfl (Nat.le_of_ble_eq_true rfl) ?_
    rintro _ _ ⟨rfl, rfl⟩
    refine jr_if_eqB (tgt := 10) (pc := 5) C dX1_restoreFile_5 (by decide) (fun c_5 => ?_) (fun c_5 => ?_)
    · simp [hq] at c_5
    · refine jr_iconst (pc := 8) (v := (-1)) C dX1_restoreFile_8 (by decide) ?_
      exact hret _ _ _ _ dX1_restoreFile_9 ⟨rfl, mw_in hr⟩
  | some p =>
    obtain ⟨hp, rfl⟩ := jp_ix_some hq
    cases hq2 : jp_ix b 16 with
    | none =>
      rw [show sp_restoreFile (nI p) b G = (-2, G) from by simp only [sp_restoreFile, hq, hq2]]
      refine jw_Mi.of (own := RX1) (by decide) rfl (Nat.le_of_ble_eq_true rfl) (fun _ _ _ => rfl) ?_
      intro E hE C hret
      subst hE
      show jw_J E 4 _ 0 [(0, .ref h), (1, .int (nI p)), (2, .int b)] []
      refine jr_aload_n (pc := 0) C dX1_restoreFile_0 rfl ?_
      refine jr_iload_n (pc := 1) C dX1_restoreFile_1 rfl ?_
      refine jr_calli (pc := 2) C gw_X1_43 ok_X1_badPoint (mM_badPoint _ (by omega)) rfl (by decide) (by decide) rfl rfl dX1_restoreFile_2 rfl (Nat.le_of_ble_eq_true rfl) ?_
      rintro _ _ ⟨rfl, rfl⟩
      refine jr_if_eqB (tgt := 10) (pc := 5) C dX1_restoreFile_5 (by decide) (fun c_5 => ?_) (fun c_5 => ?_)
      · refine jr_aload_n (pc := 10) C dX1_restoreFile_10 rfl ?_
        refine jr_iload_n (pc := 11) C dX1_restoreFile_11 rfl ?_
        refine jr_calli (pc := 12) C gw_X1_36 ok_X1_badFile (mM_badFile _) rfl (by decide) (by decide) rfl rfl dX1_restoreFile_12 rfl (Nat.le_of_ble_eq_true rfl) ?_
        rintro _ _ ⟨rfl, rfl⟩
        refine jr_if_eqB (tgt := 21) (pc := 15) C dX1_restoreFile_15 (by decide) (fun c_15 => ?_) (fun c_15 => ?_)
        · simp [hq2] at c_15
        · refine jr_bipush (pc := 18) (v := (-2)) C dX1_restoreFile_18 (by decide) ?_
          exact hret _ _ _ _ dX1_restoreFile_20 ⟨rfl, mw_in hr⟩
      · simp [hq] at c_5
    | some f =>
      obtain ⟨hf, rfl⟩ := jp_ix_some hq2
      rw [show sp_restoreFile (nI p) (nI f) G = (jp_b (jp_ne (jg_V G p f) (jg_lv G f)), jg_sl G (va_up (jg_lv G) f (jg_V G p f))) from by simp only [sp_restoreFile, hq, hq2]]
      refine jw_Mi.of (own := RX1) (by decide) rfl (Nat.le_of_ble_eq_true rfl) (fun _ _ _ => rfl) ?_
      intro E hE C hret
      subst hE
      show jw_J E 4 _ 0 [(0, .ref h), (1, .int (nI p)), (2, .int (nI f))] []
      refine jr_aload_n (pc := 0) C dX1_restoreFile_0 rfl ?_
      refine jr_iload_n (pc := 1) C dX1_restoreFile_1 rfl ?_
      refine jr_calli (pc := 2) C gw_X1_43 ok_X1_badPoint (mM_badPoint _ (by omega)) rfl (by decide) (by decide) rfl rfl dX1_restoreFile_2 rfl (Nat.le_of_ble_eq_true rfl) ?_
      rintro _ _ ⟨rfl, rfl⟩
      refine jr_if_eqB (tgt := 10) (pc := 5) C dX1_restoreFile_5 (by decide) (fun c_5 => ?_) (fun c_5 => ?_)
      · refine jr_aload_n (pc := 10) C dX1_restoreFile_10 rfl ?_
        refine jr_iload_n (pc := 11) C dX1_restoreFile_11 rfl ?_
        refine jr_calli (pc := 12) C gw_X1_36 ok_X1_badFile (mM_badFile _) rfl (by decide) (by decide) rfl rfl dX1_restoreFile_12 rfl (Nat.le_of_ble_eq_true rfl) ?_
        rintro _ _ ⟨rfl, rfl⟩
        refine jr_if_eqB (tgt := 21) (pc := 15) C dX1_restoreFile_15 (by decide) (fun c_15 => ?_) (fun c_15 => ?_)
        · refine jr_aload_n (pc := 21) C dX1_restoreFile_21 rfl ?_
          refine jr_iload_n (pc := 22) C dX1_restoreFile_22 rfl ?_
          refine jr_iload_n (pc := 23) C dX1_restoreFile_23 rfl ?_
          refine jr_calli (pc := 24) C gw_X1_46 ok_X1_changed (mM_changed hr hp hf) rfl (by decide) (by decide) rfl rfl dX1_restoreFile_24 rfl (Nat.le_of_ble_eq_true rfl) ?_
          rintro _ _ ⟨rfl, rfl⟩
          refine jr_if_eqB (tgt := 34) (pc := 27) C dX1_restoreFile_27 (by decide) (fun c_27 => ?_) (fun c_27 => ?_)
          · refine jr_iconst (pc := 34) (v := jp_b false) C dX1_restoreFile_34 (by decide) ?_
            refine jr_istore_n (pc := 35) C dX1_restoreFile_35 (by decide) rfl ?_
            refine jr_aload_n (pc := 36) C dX1_restoreFile_36 rfl ?_
            refine jr_iload_n (pc := 37) C dX1_restoreFile_37 rfl ?_
            refine jr_iload_n (pc := 38) C dX1_restoreFile_38 rfl ?_
            refine jr_callv (pc := 39) C gw_X1_50 ok_X1_back (mM_back hr hp hf) rfl (by decide) (by decide) rfl rfl dX1_restoreFile_39 rfl (Nat.le_of_ble_eq_true rfl) ?_
            intro w1 hw1
            refine jr_iload_n (pc := 42) C dX1_restoreFile_42 rfl ?_
            exact hret _ _ _ _ dX1_restoreFile_43 ⟨by rw [c_27], kp, hw1⟩
          · refine jr_iconst (pc := 30) (v := jp_b true) C dX1_restoreFile_30 (by decide) ?_
            refine jr_goto (tgt := 35) (pc := 31) C dX1_restoreFile_31 (by decide) ?_
            refine jr_istore_n (pc := 35) C dX1_restoreFile_35 (by decide) rfl ?_
            refine jr_aload_n (pc := 36) C dX1_restoreFile_36 rfl ?_
            refine jr_iload_n (pc := 37) C dX1_restoreFile_37 rfl ?_
            refine jr_iload_n (pc := 38) C dX1_restoreFile_38 rfl ?_
            refine jr_callv (pc := 39) C gw_X1_50 ok_X1_back (mM_back hr hp hf) rfl (by decide) (by decide) rfl rfl dX1_restoreFile_39 rfl (Nat.le_of_ble_eq_true rfl) ?_
            intro w1 hw1
            refine jr_iload_n (pc := 42) C dX1_restoreFile_42 rfl ?_
            exact hret _ _ _ _ dX1_restoreFile_43 ⟨by rw [c_27], kp, hw1⟩
        · simp [hq2] at c_15
      · simp [hq] at c_5
theorem mM_pin (hr : mr_R G lt li he ct dy pn) (a : Int32) (b : Int32) : jw_Mi yX1_pin cX1_pin 4 (some .int) 1 D (tM cA) [.ref h, .int a, .int b] (wM h ad cA (jg_td G) lt li (jg_n G) he ct dy pn kp) (fun r w' => r = (sp_pin a b G).1 ∧ mw_R h ad cA (sp_pin a b G).2 w') := by
  have hn := mr_n hr
  cases hq : jp_ix a (jg_n G) with
  | none =>
    rw [show sp_pin a b G = (-1, G) from by simp only [sp_pin, hq]]
    refine jw_Mi.of (own := RX1) (by decide) rfl (Nat.le_of_ble_eq_true rfl) (fun _ _ _ => rfl) ?_
    intro E hE C hret
    subst hE
    show jw_J E 4 _ 0 [(0, .ref h), (1, .int a), (2, .int b)] []
    refine jr_aload_n (pc := 0) C dX1_pin_0 rfl ?_
    refine jr_iload_n (pc := 1) C dX1_pin_1 rfl ?_
    refine jr_calli (pc := 2) C gw_X1_43 ok_X1_badPoint (mM_badPoint _ (by omega)) rfl (by decide) (by decide) rfl rfl dX1_pin_2 rfl (Nat.le_of_ble_eq_true rfl) ?_
    rintro _ _ ⟨rfl, rfl⟩
    refine jr_if_eqB (tgt := 10) (pc := 5) C dX1_pin_5 (by decide) (fun c_5 => ?_) (fun c_5 => ?_)
    · simp [hq] at c_5
    · refine jr_iconst (pc := 8) (v := (-1)) C dX1_pin_8 (by decide) ?_
      exact hret _ _ _ _ dX1_pin_9 ⟨rfl, mw_in hr⟩
  | some p =>
    obtain ⟨hp, rfl⟩ := jp_ix_some hq
    rw [show sp_pin (nI p) b G = (jp_b (jg_pv G p), (jg_lv G, jg_n G, jg_V G, jg_dv G, va_up (jg_pv G) p (decide (¬ b = 0)), jg_td G)) from by simp only [sp_pin, hq]]
    have hdp := mr_dp hr hp
    have hR : ∀ v, mr_R (jg_lv G, jg_n G, jg_V G, jg_dv G, va_up (jg_pv G) p v, jg_td G) lt li he ct dy (va_up pn p v) := by
      intro v
      obtain ⟨a1, a2, a3, a4, a5, a6⟩ := hr
      refine ⟨a1, a2, fun q hq => ⟨(a3 q hq).1, ?_, (a3 q hq).2.2⟩, a4, a5, a6⟩
      show va_up pn p v q = va_up (jg_pv G) p v q
      unfold va_up
      by_cases e : q = p
      · rw [if_pos e, if_pos e]
      · rw [if_neg e, if_neg e]
        exact (a3 q hq).2.1
    refine jw_Mi.of (own := RX1) (by decide) rfl (Nat.le_of_ble_eq_true rfl) (fun _ _ _ => rfl) ?_
    intro E hE C hret
    subst hE
    show jw_J E 4 _ 0 [(0, .ref h), (1, .int (nI p)), (2, .int b)] []
    refine jr_aload_n (pc := 0) C dX1_pin_0 rfl ?_
    refine jr_iload_n (pc := 1) C dX1_pin_1 rfl ?_
    refine jr_calli (pc := 2) C gw_X1_43 ok_X1_badPoint (mM_badPoint _ (by omega)) rfl (by decide) (by decide) rfl rfl dX1_pin_2 rfl (Nat.le_of_ble_eq_true rfl) ?_
    rintro _ _ ⟨rfl, rfl⟩
    refine jr_if_eqB (tgt := 10) (pc := 5) C dX1_pin_5 (by decide) (fun c_5 => ?_) (fun c_5 => ?_)
    · refine jr_aload_n (pc := 10) C dX1_pin_10 rfl ?_
      refine jm_g_pn (pc := 11) C dX1_pin_11 ?_
      refine jr_iload_n (pc := 14) C dX1_pin_14 rfl ?_
      refine jm_l_pn (pc := 15) C (by omega) dX1_pin_15 ?_
      refine jr_if_eqB (tgt := 23) (pc := 16) C dX1_pin_16 (by decide) (fun c_16 => ?_) (fun c_16 => ?_)
      · refine jr_iconst (pc := 23) (v := jp_b false) C dX1_pin_23 (by decide) ?_
        refine jr_istore_n (pc := 24) C dX1_pin_24 (by decide) rfl ?_
        refine jr_aload_n (pc := 25) C dX1_pin_25 rfl ?_
        refine jm_g_pn (pc := 26) C dX1_pin_26 ?_
        refine jr_iload_n (pc := 29) C dX1_pin_29 rfl ?_
        refine jr_iload_n (pc := 30) C dX1_pin_30 rfl ?_
        refine jr_if_eq (tgt := 38) (pc := 31) C dX1_pin_31 (by decide) (fun c_31 => ?_) (fun c_31 => ?_)
        · refine jr_iconst (pc := 38) (v := jp_b false) C dX1_pin_38 (by decide) ?_
          refine jm_s_pn (pc := 39) C (by omega) dX1_pin_39 ?_
          refine jr_iload_n (pc := 40) C dX1_pin_40 rfl ?_
          refine hret _ _ _ _ dX1_pin_41 ?_
          refine ⟨by rw [← hdp.2.1, c_16], kp, lt, li, he, ct, dy, _, rfl, ?_⟩
          simp only [c_31, not_true_eq_false, not_false_eq_true, decide_true, decide_false]
          exact hR _
        · refine jr_iconst (pc := 34) (v := jp_b true) C dX1_pin_34 (by decide) ?_
          refine jr_goto (tgt := 39) (pc := 35) C dX1_pin_35 (by decide) ?_
          refine jm_s_pn (pc := 39) C (by omega) dX1_pin_39 ?_
          refine jr_iload_n (pc := 40) C dX1_pin_40 rfl ?_
          refine hret _ _ _ _ dX1_pin_41 ?_
          refine ⟨by rw [← hdp.2.1, c_16], kp, lt, li, he, ct, dy, _, rfl, ?_⟩
          simp only [c_31, not_true_eq_false, not_false_eq_true, decide_true, decide_false]
          exact hR _
      · refine jr_iconst (pc := 19) (v := jp_b true) C dX1_pin_19 (by decide) ?_
        refine jr_goto (tgt := 24) (pc := 20) C dX1_pin_20 (by decide) ?_
        refine jr_istore_n (pc := 24) C dX1_pin_24 (by decide) rfl ?_
        refine jr_aload_n (pc := 25) C dX1_pin_25 rfl ?_
        refine jm_g_pn (pc := 26) C dX1_pin_26 ?_
        refine jr_iload_n (pc := 29) C dX1_pin_29 rfl ?_
        refine jr_iload_n (pc := 30) C dX1_pin_30 rfl ?_
        refine jr_if_eq (tgt := 38) (pc := 31) C dX1_pin_31 (by decide) (fun c_31 => ?_) (fun c_31 => ?_)
        · refine jr_iconst (pc := 38) (v := jp_b false) C dX1_pin_38 (by decide) ?_
          refine jm_s_pn (pc := 39) C (by omega) dX1_pin_39 ?_
          refine jr_iload_n (pc := 40) C dX1_pin_40 rfl ?_
          refine hret _ _ _ _ dX1_pin_41 ?_
          refine ⟨by rw [← hdp.2.1, c_16], kp, lt, li, he, ct, dy, _, rfl, ?_⟩
          simp only [c_31, not_true_eq_false, not_false_eq_true, decide_true, decide_false]
          exact hR _
        · refine jr_iconst (pc := 34) (v := jp_b true) C dX1_pin_34 (by decide) ?_
          refine jr_goto (tgt := 39) (pc := 35) C dX1_pin_35 (by decide) ?_
          refine jm_s_pn (pc := 39) C (by omega) dX1_pin_39 ?_
          refine jr_iload_n (pc := 40) C dX1_pin_40 rfl ?_
          refine hret _ _ _ _ dX1_pin_41 ?_
          refine ⟨by rw [← hdp.2.1, c_16], kp, lt, li, he, ct, dy, _, rfl, ?_⟩
          simp only [c_31, not_true_eq_false, not_false_eq_true, decide_true, decide_false]
          exact hR _
    · simp [hq] at c_5
theorem mM_dayOf (hr : mr_R G lt li he ct dy pn) (a : Int32) : jw_Mi yX1_dayOf cX1_dayOf 2 (some .int) 1 D (tM cA) [.ref h, .int a] (wM h ad cA (jg_td G) lt li (jg_n G) he ct dy pn kp) (fun r w' => r = (sp_dayOf a G).1 ∧ mw_R h ad cA (sp_dayOf a G).2 w') := by
  have hn := mr_n hr
  cases hq : jp_ix a (jg_n G) with
  | none =>
    rw [show sp_dayOf a G = (-1, G) from by simp only [sp_dayOf, hq]]
    refine jw_Mi.of (own := RX1) (by decide) rfl (Nat.le_of_ble_eq_true rfl) (fun _ _ _ => rfl) ?_
    intro E hE C hret
    subst hE
    show jw_J E 2 _ 0 [(0, .ref h), (1, .int a)] []
    refine jr_aload_n (pc := 0) C dX1_dayOf_0 rfl ?_
    refine jr_iload_n (pc := 1) C dX1_dayOf_1 rfl ?_
    refine jr_calli (pc := 2) C gw_X1_43 ok_X1_badPoint (mM_badPoint _ (by omega)) rfl (by decide) (by decide) rfl rfl dX1_dayOf_2 rfl (Nat.le_of_ble_eq_true rfl) ?_
    rintro _ _ ⟨rfl, rfl⟩
    refine jr_if_eqB (tgt := 12) (pc := 5) C dX1_dayOf_5 (by decide) (fun c_5 => ?_) (fun c_5 => ?_)
    · simp [hq] at c_5
    · refine jr_iconst (pc := 8) (v := (-1)) C dX1_dayOf_8 (by decide) ?_
      refine jr_goto (tgt := 18) (pc := 9) C dX1_dayOf_9 (by decide) ?_
      exact hret _ _ _ _ dX1_dayOf_18 ⟨rfl, mw_in hr⟩
  | some p =>
    obtain ⟨hp, rfl⟩ := jp_ix_some hq
    rw [show sp_dayOf (nI p) G = (nI (jg_dv G p), G) from by simp only [sp_dayOf, hq]]
    have hdp := mr_dp hr hp
    refine jw_Mi.of (own := RX1) (by decide) rfl (Nat.le_of_ble_eq_true rfl) (fun _ _ _ => rfl) ?_
    intro E hE C hret
    subst hE
    show jw_J E 2 _ 0 [(0, .ref h), (1, .int (nI p))] []
    refine jr_aload_n (pc := 0) C dX1_dayOf_0 rfl ?_
    refine jr_iload_n (pc := 1) C dX1_dayOf_1 rfl ?_
    refine jr_calli (pc := 2) C gw_X1_43 ok_X1_badPoint (mM_badPoint _ (by omega)) rfl (by decide) (by decide) rfl rfl dX1_dayOf_2 rfl (Nat.le_of_ble_eq_true rfl) ?_
    rintro _ _ ⟨rfl, rfl⟩
    refine jr_if_eqB (tgt := 12) (pc := 5) C dX1_dayOf_5 (by decide) (fun c_5 => ?_) (fun c_5 => ?_)
    · refine jr_aload_n (pc := 12) C dX1_dayOf_12 rfl ?_
      refine jm_g_dy (pc := 13) C dX1_dayOf_13 ?_
      refine jr_iload_n (pc := 16) C dX1_dayOf_16 rfl ?_
      refine jm_l_dy (pc := 17) C (by omega) dX1_dayOf_17 ?_
      exact hret _ _ _ _ dX1_dayOf_18 ⟨by rw [hdp.1], mw_in hr⟩
    · simp [hq] at c_5
theorem mM_pinned (hr : mr_R G lt li he ct dy pn) (a : Int32) : jw_Mi yX1_pinned cX1_pinned 2 (some .int) 1 D (tM cA) [.ref h, .int a] (wM h ad cA (jg_td G) lt li (jg_n G) he ct dy pn kp) (fun r w' => r = (sp_pinned a G).1 ∧ mw_R h ad cA (sp_pinned a G).2 w') := by
  have hn := mr_n hr
  cases hq : jp_ix a (jg_n G) with
  | none =>
    rw [show sp_pinned a G = (-1, G) from by simp only [sp_pinned, hq]]
    refine jw_Mi.of (own := RX1) (by decide) rfl (Nat.le_of_ble_eq_true rfl) (fun _ _ _ => rfl) ?_
    intro E hE C hret
    subst hE
    show jw_J E 2 _ 0 [(0, .ref h), (1, .int a)] []
    refine jr_aload_n (pc := 0) C dX1_pinned_0 rfl ?_
    refine jr_iload_n (pc := 1) C dX1_pinned_1 rfl ?_
    refine jr_calli (pc := 2) C gw_X1_43 ok_X1_badPoint (mM_badPoint _ (by omega)) rfl (by decide) (by decide) rfl rfl dX1_pinned_2 rfl (Nat.le_of_ble_eq_true rfl) ?_
    rintro _ _ ⟨rfl, rfl⟩
    refine jr_if_eqB (tgt := 10) (pc := 5) C dX1_pinned_5 (by decide) (fun c_5 => ?_) (fun c_5 => ?_)
    · simp [hq] at c_5
    · refine jr_iconst (pc := 8) (v := (-1)) C dX1_pinned_8 (by decide) ?_
      exact hret _ _ _ _ dX1_pinned_9 ⟨rfl, mw_in hr⟩
  | some p =>
    obtain ⟨hp, rfl⟩ := jp_ix_some hq
    rw [show sp_pinned (nI p) G = (jp_b (jg_pv G p), G) from by simp only [sp_pinned, hq]]
    have hdp := mr_dp hr hp
    refine jw_Mi.of (own := RX1) (by decide) rfl (Nat.le_of_ble_eq_true rfl) (fun _ _ _ => rfl) ?_
    intro E hE C hret
    subst hE
    show jw_J E 2 _ 0 [(0, .ref h), (1, .int (nI p))] []
    refine jr_aload_n (pc := 0) C dX1_pinned_0 rfl ?_
    refine jr_iload_n (pc := 1) C dX1_pinned_1 rfl ?_
    refine jr_calli (pc := 2) C gw_X1_43 ok_X1_badPoint (mM_badPoint _ (by omega)) rfl (by decide) (by decide) rfl rfl dX1_pinned_2 rfl (Nat.le_of_ble_eq_true rfl) ?_
    rintro _ _ ⟨rfl, rfl⟩
    refine jr_if_eqB (tgt := 10) (pc := 5) C dX1_pinned_5 (by decide) (fun c_5 => ?_) (fun c_5 => ?_)
    · refine jr_aload_n (pc := 10) C dX1_pinned_10 rfl ?_
      refine jm_g_pn (pc := 11) C dX1_pinned_11 ?_
      refine jr_iload_n (pc := 14) C dX1_pinned_14 rfl ?_
      refine jm_l_pn (pc := 15) C (by omega) dX1_pinned_15 ?_
      refine jr_if_eqB (tgt := 23) (pc := 16) C dX1_pinned_16 (by decide) (fun c_16 => ?_) (fun c_16 => ?_)
      · refine jr_iconst (pc := 23) (v := jp_b false) C dX1_pinned_23 (by decide) ?_
        exact hret _ _ _ _ dX1_pinned_24 ⟨by rw [← hdp.2.1, c_16], mw_in hr⟩
      · refine jr_iconst (pc := 19) (v := jp_b true) C dX1_pinned_19 (by decide) ?_
        refine jr_goto (tgt := 24) (pc := 20) C dX1_pinned_20 (by decide) ?_
        exact hret _ _ _ _ dX1_pinned_24 ⟨by rw [← hdp.2.1, c_16], mw_in hr⟩
    · simp [hq] at c_5
theorem mM_there (hr : mr_R G lt li he ct dy pn) (a : Int32) (b : Int32) : jw_Mi yX1_there cX1_there 3 (some .int) 1 D (tM cA) [.ref h, .int a, .int b] (wM h ad cA (jg_td G) lt li (jg_n G) he ct dy pn kp) (fun r w' => r = (sp_there a b G).1 ∧ mw_R h ad cA (sp_there a b G).2 w') := by
  have hn := mr_n hr
  cases hq : jp_ix a (jg_n G) with
  | none =>
    rw [show sp_there a b G = (-1, G) from by simp only [sp_there, hq]]
    refine jw_Mi.of (own := RX1) (by decide) rfl (Nat.le_of_ble_eq_true rfl) (fun _ _ _ => rfl) ?_
    intro E hE C hret
    subst hE
    show jw_J E 3 _ 0 [(0, .ref h), (1, .int a), (2, .int b)] []
    refine jr_aload_n (pc := 0) C dX1_there_0 rfl ?_
    refine jr_iload_n (pc := 1) C dX1_there_1 rfl ?_
    refine jr_calli (pc := 2) C gw_X1_43 ok_X1_badPoint (mM_badPoint _ (by omega)) rfl (by decide) (by decide) rfl rfl dX1_there_2 rfl (Nat.le_of_ble_eq_true rfl) ?_
    rintro _ _ ⟨rfl, rfl⟩
    refine jr_if_eqB (tgt := 10) (pc := 5) C dX1_there_5 (by decide) (fun c_5 => ?_) (fun c_5 => ?_)
    · simp [hq] at c_5
    · refine jr_iconst (pc := 8) (v := (-1)) C dX1_there_8 (by decide) ?_
      exact hret _ _ _ _ dX1_there_9 ⟨rfl, mw_in hr⟩
  | some p =>
    obtain ⟨hp, rfl⟩ := jp_ix_some hq
    cases hq2 : jp_ix b 16 with
    | none =>
      rw [show sp_there (nI p) b G = (-2, G) from by simp only [sp_there, hq, hq2]]
      refine jw_Mi.of (own := RX1) (by decide) rfl (Nat.le_of_ble_eq_true rfl) (fun _ _ _ => rfl) ?_
      intro E hE C hret
      subst hE
      show jw_J E 3 _ 0 [(0, .ref h), (1, .int (nI p)), (2, .int b)] []
      refine jr_aload_n (pc := 0) C dX1_there_0 rfl ?_
      refine jr_iload_n (pc := 1) C dX1_there_1 rfl ?_
      refine jr_calli (pc := 2) C gw_X1_43 ok_X1_badPoint (mM_badPoint _ (by omega)) rfl (by decide) (by decide) rfl rfl dX1_there_2 rfl (Nat.le_of_ble_eq_true rfl) ?_
      rintro _ _ ⟨rfl, rfl⟩
      refine jr_if_eqB (tgt := 10) (pc := 5) C dX1_there_5 (by decide) (fun c_5 => ?_) (fun c_5 => ?_)
      · refine jr_aload_n (pc := 10) C dX1_there_10 rfl ?_
        refine jr_iload_n (pc := 11) C dX1_there_11 rfl ?_
        refine jr_calli (pc := 12) C gw_X1_36 ok_X1_badFile (mM_badFile _) rfl (by decide) (by decide) rfl rfl dX1_there_12 rfl (Nat.le_of_ble_eq_true rfl) ?_
        rintro _ _ ⟨rfl, rfl⟩
        refine jr_if_eqB (tgt := 21) (pc := 15) C dX1_there_15 (by decide) (fun c_15 => ?_) (fun c_15 => ?_)
        · simp [hq2] at c_15
        · refine jr_bipush (pc := 18) (v := (-2)) C dX1_there_18 (by decide) ?_
          exact hret _ _ _ _ dX1_there_20 ⟨rfl, mw_in hr⟩
      · simp [hq] at c_5
    | some f =>
      obtain ⟨hf, rfl⟩ := jp_ix_some hq2
      rw [show sp_there (nI p) (nI f) G = (jp_b (jg_V G p f).isSome, G) from by simp only [sp_there, hq, hq2]]
      have hV := mr_V hr hp hf
      refine jw_Mi.of (own := RX1) (by decide) rfl (Nat.le_of_ble_eq_true rfl) (fun _ _ _ => rfl) ?_
      intro E hE C hret
      subst hE
      show jw_J E 3 _ 0 [(0, .ref h), (1, .int (nI p)), (2, .int (nI f))] []
      refine jr_aload_n (pc := 0) C dX1_there_0 rfl ?_
      refine jr_iload_n (pc := 1) C dX1_there_1 rfl ?_
      refine jr_calli (pc := 2) C gw_X1_43 ok_X1_badPoint (mM_badPoint _ (by omega)) rfl (by decide) (by decide) rfl rfl dX1_there_2 rfl (Nat.le_of_ble_eq_true rfl) ?_
      rintro _ _ ⟨rfl, rfl⟩
      refine jr_if_eqB (tgt := 10) (pc := 5) C dX1_there_5 (by decide) (fun c_5 => ?_) (fun c_5 => ?_)
      · refine jr_aload_n (pc := 10) C dX1_there_10 rfl ?_
        refine jr_iload_n (pc := 11) C dX1_there_11 rfl ?_
        refine jr_calli (pc := 12) C gw_X1_36 ok_X1_badFile (mM_badFile _) rfl (by decide) (by decide) rfl rfl dX1_there_12 rfl (Nat.le_of_ble_eq_true rfl) ?_
        rintro _ _ ⟨rfl, rfl⟩
        refine jr_if_eqB (tgt := 21) (pc := 15) C dX1_there_15 (by decide) (fun c_15 => ?_) (fun c_15 => ?_)
        · refine jr_aload_n (pc := 21) C dX1_there_21 rfl ?_
          refine jm_g_he (pc := 22) C dX1_there_22 ?_
          refine jr_bipush (pc := 25) (v := nI 16) C dX1_there_25 (by decide) ?_
          refine jr_iload_n (pc := 27) C dX1_there_27 rfl ?_
          refine jr_imulN (pc := 28) C dX1_there_28 ?_
          refine jr_iload_n (pc := 29) C dX1_there_29 rfl ?_
          refine jr_iaddN (pc := 30) C dX1_there_30 ?_
          refine jm_l_he (pc := 31) C (by omega) dX1_there_31 ?_
          refine jr_if_eqB (tgt := 39) (pc := 32) C dX1_there_32 (by decide) (fun c_32 => ?_) (fun c_32 => ?_)
          · refine jr_iconst (pc := 39) (v := jp_b false) C dX1_there_39 (by decide) ?_
            exact hret _ _ _ _ dX1_there_40 ⟨by rw [← hV.1, c_32], mw_in hr⟩
          · refine jr_iconst (pc := 35) (v := jp_b true) C dX1_there_35 (by decide) ?_
            refine jr_goto (tgt := 40) (pc := 36) C dX1_there_36 (by decide) ?_
            exact hret _ _ _ _ dX1_there_40 ⟨by rw [← hV.1, c_32], mw_in hr⟩
        · simp [hq2] at c_15
      · simp [hq] at c_5
theorem mM_content (hr : mr_R G lt li he ct dy pn) (a : Int32) (b : Int32) : jw_Mi yX1_content cX1_content 3 (some .int) 1 D (tM cA) [.ref h, .int a, .int b] (wM h ad cA (jg_td G) lt li (jg_n G) he ct dy pn kp) (fun r w' => r = (sp_content a b G).1 ∧ mw_R h ad cA (sp_content a b G).2 w') := by
  have hn := mr_n hr
  cases hq : jp_ix a (jg_n G) with
  | none =>
    rw [show sp_content a b G = (0, G) from by simp only [sp_content, hq]]
    refine jw_Mi.of (own := RX1) (by decide) rfl (Nat.le_of_ble_eq_true rfl) (fun _ _ _ => rfl) ?_
    intro E hE C hret
    subst hE
    show jw_J E 3 _ 0 [(0, .ref h), (1, .int a), (2, .int b)] []
    refine jr_aload_n (pc := 0) C dX1_content_0 rfl ?_
    refine jr_iload_n (pc := 1) C dX1_content_1 rfl ?_
    refine jr_calli (pc := 2) C gw_X1_43 ok_X1_badPoint (mM_badPoint _ (by omega)) rfl (by decide) (by decide) rfl rfl dX1_content_2 rfl (Nat.le_of_ble_eq_true rfl) ?_
    rintro _ _ ⟨rfl, rfl⟩
    refine jr_if_neB (tgt := 16) (pc := 5) C dX1_content_5 (by decide) (fun c_5 => ?_) (fun c_5 => ?_)
    · refine jr_iconst (pc := 16) (v := nI 0) C dX1_content_16 (by decide) ?_
      exact hret _ _ _ _ dX1_content_17 ⟨rfl, mw_in hr⟩
    · simp [hq] at c_5
  | some p =>
    obtain ⟨hp, rfl⟩ := jp_ix_some hq
    cases hq2 : jp_ix b 16 with
    | none =>
      rw [show sp_content (nI p) b G = (0, G) from by simp only [sp_content, hq, hq2]]
      refine jw_Mi.of (own := RX1) (by decide) rfl (Nat.le_of_ble_eq_true rfl) (fun _ _ _ => rfl) ?_
      intro E hE C hret
      subst hE
      show jw_J E 3 _ 0 [(0, .ref h), (1, .int (nI p)), (2, .int b)] []
      refine jr_aload_n (pc := 0) C dX1_content_0 rfl ?_
      refine jr_iload_n (pc := 1) C dX1_content_1 rfl ?_
      refine jr_calli (pc := 2) C gw_X1_43 ok_X1_badPoint (mM_badPoint _ (by omega)) rfl (by decide) (by decide) rfl rfl dX1_content_2 rfl (Nat.le_of_ble_eq_true rfl) ?_
      rintro _ _ ⟨rfl, rfl⟩
      refine jr_if_neB (tgt := 16) (pc := 5) C dX1_content_5 (by decide) (fun c_5 => ?_) (fun c_5 => ?_)
      · simp [hq] at c_5
      · refine jr_aload_n (pc := 8) C dX1_content_8 rfl ?_
        refine jr_iload_n (pc := 9) C dX1_content_9 rfl ?_
        refine jr_calli (pc := 10) C gw_X1_36 ok_X1_badFile (mM_badFile _) rfl (by decide) (by decide) rfl rfl dX1_content_10 rfl (Nat.le_of_ble_eq_true rfl) ?_
        rintro _ _ ⟨rfl, rfl⟩
        refine jr_if_eqB (tgt := 18) (pc := 13) C dX1_content_13 (by decide) (fun c_13 => ?_) (fun c_13 => ?_)
        · simp [hq2] at c_13
        · refine jr_iconst (pc := 16) (v := nI 0) C dX1_content_16 (by decide) ?_
          exact hret _ _ _ _ dX1_content_17 ⟨rfl, mw_in hr⟩
    | some f =>
      obtain ⟨hf, rfl⟩ := jp_ix_some hq2
      rw [show sp_content (nI p) (nI f) G = ((jg_V G p f).getD 0, G) from by simp only [sp_content, hq, hq2]]
      have hV := mr_V hr hp hf
      refine jw_Mi.of (own := RX1) (by decide) rfl (Nat.le_of_ble_eq_true rfl) (fun _ _ _ => rfl) ?_
      intro E hE C hret
      subst hE
      show jw_J E 3 _ 0 [(0, .ref h), (1, .int (nI p)), (2, .int (nI f))] []
      refine jr_aload_n (pc := 0) C dX1_content_0 rfl ?_
      refine jr_iload_n (pc := 1) C dX1_content_1 rfl ?_
      refine jr_calli (pc := 2) C gw_X1_43 ok_X1_badPoint (mM_badPoint _ (by omega)) rfl (by decide) (by decide) rfl rfl dX1_content_2 rfl (Nat.le_of_ble_eq_true rfl) ?_
      rintro _ _ ⟨rfl, rfl⟩
      refine jr_if_neB (tgt := 16) (pc := 5) C dX1_content_5 (by decide) (fun c_5 => ?_) (fun c_5 => ?_)
      · simp [hq] at c_5
      · refine jr_aload_n (pc := 8) C dX1_content_8 rfl ?_
        refine jr_iload_n (pc := 9) C dX1_content_9 rfl ?_
        refine jr_calli (pc := 10) C gw_X1_36 ok_X1_badFile (mM_badFile _) rfl (by decide) (by decide) rfl rfl dX1_content_10 rfl (Nat.le_of_ble_eq_true rfl) ?_
        rintro _ _ ⟨rfl, rfl⟩
        refine jr_if_eqB (tgt := 18) (pc := 13) C dX1_content_13 (by decide) (fun c_13 => ?_) (fun c_13 => ?_)
        · refine jr_aload_n (pc := 18) C dX1_content_18 rfl ?_
          refine jm_g_he (pc := 19) C dX1_content_19 ?_
          refine jr_bipush (pc := 22) (v := nI 16) C dX1_content_22 (by decide) ?_
          refine jr_iload_n (pc := 24) C dX1_content_24 rfl ?_
          refine jr_imulN (pc := 25) C dX1_content_25 ?_
          refine jr_iload_n (pc := 26) C dX1_content_26 rfl ?_
          refine jr_iaddN (pc := 27) C dX1_content_27 ?_
          refine jm_l_he (pc := 28) C (by omega) dX1_content_28 ?_
          refine jr_if_eqB (tgt := 46) (pc := 29) C dX1_content_29 (by decide) (fun c_29 => ?_) (fun c_29 => ?_)
          · refine jr_iconst (pc := 46) (v := nI 0) C dX1_content_46 (by decide) ?_
            refine hret _ _ _ _ dX1_content_47 ?_
            first
              | exact ⟨hV.2, mw_in hr⟩
              | exact ⟨(jp_none0 (hV.1.symm.trans c_29)).symm, mw_in hr⟩
          · refine jr_aload_n (pc := 32) C dX1_content_32 rfl ?_
            refine jm_g_ct (pc := 33) C dX1_content_33 ?_
            refine jr_bipush (pc := 36) (v := nI 16) C dX1_content_36 (by decide) ?_
            refine jr_iload_n (pc := 38) C dX1_content_38 rfl ?_
            refine jr_imulN (pc := 39) C dX1_content_39 ?_
            refine jr_iload_n (pc := 40) C dX1_content_40 rfl ?_
            refine jr_iaddN (pc := 41) C dX1_content_41 ?_
            refine jm_l_ct (pc := 42) C (by omega) dX1_content_42 ?_
            refine jr_goto (tgt := 47) (pc := 43) C dX1_content_43 (by decide) ?_
            refine hret _ _ _ _ dX1_content_47 ?_
            first
              | exact ⟨hV.2, mw_in hr⟩
              | exact ⟨(jp_none0 (hV.1.symm.trans c_29)).symm, mw_in hr⟩
        · simp [hq2] at c_13
theorem mM_liveThere (hr : mr_R G lt li he ct dy pn) (a : Int32) : jw_Mi yX1_liveThere cX1_liveThere 2 (some .int) 1 D (tM cA) [.ref h, .int a] (wM h ad cA (jg_td G) lt li (jg_n G) he ct dy pn kp) (fun r w' => r = (sp_liveThere a G).1 ∧ mw_R h ad cA (sp_liveThere a G).2 w') := by
  have hn := mr_n hr
  cases hq : jp_ix a 16 with
  | none =>
    rw [show sp_liveThere a G = (-1, G) from by simp only [sp_liveThere, hq]]
    refine jw_Mi.of (own := RX1) (by decide) rfl (Nat.le_of_ble_eq_true rfl) (fun _ _ _ => rfl) ?_
    intro E hE C hret
    subst hE
    show jw_J E 2 _ 0 [(0, .ref h), (1, .int a)] []
    refine jr_aload_n (pc := 0) C dX1_liveThere_0 rfl ?_
    refine jr_iload_n (pc := 1) C dX1_liveThere_1 rfl ?_
    refine jr_calli (pc := 2) C gw_X1_36 ok_X1_badFile (mM_badFile _) rfl (by decide) (by decide) rfl rfl dX1_liveThere_2 rfl (Nat.le_of_ble_eq_true rfl) ?_
    rintro _ _ ⟨rfl, rfl⟩
    refine jr_if_eqB (tgt := 10) (pc := 5) C dX1_liveThere_5 (by decide) (fun c_5 => ?_) (fun c_5 => ?_)
    · simp [hq] at c_5
    · refine jr_iconst (pc := 8) (v := (-1)) C dX1_liveThere_8 (by decide) ?_
      exact hret _ _ _ _ dX1_liveThere_9 ⟨rfl, mw_in hr⟩
  | some f =>
    obtain ⟨hf, rfl⟩ := jp_ix_some hq
    rw [show sp_liveThere (nI f) G = (jp_b (jg_lv G f).isSome, G) from by simp only [sp_liveThere, hq]]
    have hL := mr_lv hr hf
    refine jw_Mi.of (own := RX1) (by decide) rfl (Nat.le_of_ble_eq_true rfl) (fun _ _ _ => rfl) ?_
    intro E hE C hret
    subst hE
    show jw_J E 2 _ 0 [(0, .ref h), (1, .int (nI f))] []
    refine jr_aload_n (pc := 0) C dX1_liveThere_0 rfl ?_
    refine jr_iload_n (pc := 1) C dX1_liveThere_1 rfl ?_
    refine jr_calli (pc := 2) C gw_X1_36 ok_X1_badFile (mM_badFile _) rfl (by decide) (by decide) rfl rfl dX1_liveThere_2 rfl (Nat.le_of_ble_eq_true rfl) ?_
    rintro _ _ ⟨rfl, rfl⟩
    refine jr_if_eqB (tgt := 10) (pc := 5) C dX1_liveThere_5 (by decide) (fun c_5 => ?_) (fun c_5 => ?_)
    · refine jr_aload_n (pc := 10) C dX1_liveThere_10 rfl ?_
      refine jm_g_lt (pc := 11) C dX1_liveThere_11 ?_
      refine jr_iload_n (pc := 14) C dX1_liveThere_14 rfl ?_
      refine jm_l_lt (pc := 15) C (by omega) dX1_liveThere_15 ?_
      refine jr_if_eqB (tgt := 23) (pc := 16) C dX1_liveThere_16 (by decide) (fun c_16 => ?_) (fun c_16 => ?_)
      · refine jr_iconst (pc := 23) (v := jp_b false) C dX1_liveThere_23 (by decide) ?_
        exact hret _ _ _ _ dX1_liveThere_24 ⟨by rw [← hL.1, c_16], mw_in hr⟩
      · refine jr_iconst (pc := 19) (v := jp_b true) C dX1_liveThere_19 (by decide) ?_
        refine jr_goto (tgt := 24) (pc := 20) C dX1_liveThere_20 (by decide) ?_
        exact hret _ _ _ _ dX1_liveThere_24 ⟨by rw [← hL.1, c_16], mw_in hr⟩
    · simp [hq] at c_5
theorem mM_live (hr : mr_R G lt li he ct dy pn) (a : Int32) : jw_Mi yX1_live cX1_live 2 (some .int) 1 D (tM cA) [.ref h, .int a] (wM h ad cA (jg_td G) lt li (jg_n G) he ct dy pn kp) (fun r w' => r = (sp_live a G).1 ∧ mw_R h ad cA (sp_live a G).2 w') := by
  have hn := mr_n hr
  cases hq : jp_ix a 16 with
  | none =>
    rw [show sp_live a G = (0, G) from by simp only [sp_live, hq]]
    refine jw_Mi.of (own := RX1) (by decide) rfl (Nat.le_of_ble_eq_true rfl) (fun _ _ _ => rfl) ?_
    intro E hE C hret
    subst hE
    show jw_J E 2 _ 0 [(0, .ref h), (1, .int a)] []
    refine jr_aload_n (pc := 0) C dX1_live_0 rfl ?_
    refine jr_iload_n (pc := 1) C dX1_live_1 rfl ?_
    refine jr_calli (pc := 2) C gw_X1_36 ok_X1_badFile (mM_badFile _) rfl (by decide) (by decide) rfl rfl dX1_live_2 rfl (Nat.le_of_ble_eq_true rfl) ?_
    rintro _ _ ⟨rfl, rfl⟩
    refine jr_if_eqB (tgt := 10) (pc := 5) C dX1_live_5 (by decide) (fun c_5 => ?_) (fun c_5 => ?_)
    · simp [hq] at c_5
    · refine jr_iconst (pc := 8) (v := nI 0) C dX1_live_8 (by decide) ?_
      exact hret _ _ _ _ dX1_live_9 ⟨rfl, mw_in hr⟩
  | some f =>
    obtain ⟨hf, rfl⟩ := jp_ix_some hq
    rw [show sp_live (nI f) G = ((jg_lv G f).getD 0, G) from by simp only [sp_live, hq]]
    have hL := mr_lv hr hf
    refine jw_Mi.of (own := RX1) (by decide) rfl (Nat.le_of_ble_eq_true rfl) (fun _ _ _ => rfl) ?_
    intro E hE C hret
    subst hE
    show jw_J E 2 _ 0 [(0, .ref h), (1, .int (nI f))] []
    refine jr_aload_n (pc := 0) C dX1_live_0 rfl ?_
    refine jr_iload_n (pc := 1) C dX1_live_1 rfl ?_
    refine jr_calli (pc := 2) C gw_X1_36 ok_X1_badFile (mM_badFile _) rfl (by decide) (by decide) rfl rfl dX1_live_2 rfl (Nat.le_of_ble_eq_true rfl) ?_
    rintro _ _ ⟨rfl, rfl⟩
    refine jr_if_eqB (tgt := 10) (pc := 5) C dX1_live_5 (by decide) (fun c_5 => ?_) (fun c_5 => ?_)
    · refine jr_aload_n (pc := 10) C dX1_live_10 rfl ?_
      refine jm_g_lt (pc := 11) C dX1_live_11 ?_
      refine jr_iload_n (pc := 14) C dX1_live_14 rfl ?_
      refine jm_l_lt (pc := 15) C (by omega) dX1_live_15 ?_
      refine jr_if_eqB (tgt := 28) (pc := 16) C dX1_live_16 (by decide) (fun c_16 => ?_) (fun c_16 => ?_)
      · refine jr_iconst (pc := 28) (v := nI 0) C dX1_live_28 (by decide) ?_
        refine hret _ _ _ _ dX1_live_29 ?_
        first
          | exact ⟨hL.2, mw_in hr⟩
          | exact ⟨(jp_none0 (hL.1.symm.trans c_16)).symm, mw_in hr⟩
      · refine jr_aload_n (pc := 19) C dX1_live_19 rfl ?_
        refine jm_g_li (pc := 20) C dX1_live_20 ?_
        refine jr_iload_n (pc := 23) C dX1_live_23 rfl ?_
        refine jm_l_li (pc := 24) C (by omega) dX1_live_24 ?_
        refine jr_goto (tgt := 29) (pc := 25) C dX1_live_25 (by decide) ?_
        refine hret _ _ _ _ dX1_live_29 ?_
        first
          | exact ⟨hL.2, mw_in hr⟩
          | exact ⟨(jp_none0 (hL.1.symm.trans c_16)).symm, mw_in hr⟩
    · simp [hq] at c_5
end
end
section
/-! the reference: public methods with loops -/
set_option maxRecDepth 100000
section
variable {D : va_G} {E : je_E} {h : Nat} {ad : Nat → Nat} {cA : Nat → ClassId} {td n : Nat} {lt : Nat → Bool} {li : Nat → Int32} {he : Nat → Bool} {ct : Nat → Int32} {dy : Nat → Nat} {pn kp : Nat → Bool} {G : jg_G}
theorem mM_rewrite_loop (C : jw_C E cX1_rewrite 6 RX1 (tM cA) 1) {f : Nat} {c s : Int32} (hf : f < 16) (hret : ∀ pc lv v w', decode cX1_rewrite pc = .ok (.ireturn, 1) → (v = nI (jp_cnt (fun g => (jg_lv G g).isSome) f (16 - f)) ∧ mw_R h ad cA (jg_sl G (sp_rw (jg_lv G) f c s 16)) w') → jw_J E 6 w' pc lv [.int v]) : ∀ (k j : Nat), f + j + k = 16 → ∀ (lt : Nat → Bool) (li : Nat → Int32), mr_R (jg_sl G (sp_rw (jg_lv G) f c s (f + j))) lt li he ct dy pn → jw_J E 6 (wM h ad cA (jg_td G) lt li (jg_n G) he ct dy pn kp) 16 [(0, .ref h), (1, .int (nI f)), (2, .int c), (3, .int s), (4, .int (nI (jp_cnt (fun g => (jg_lv G g).isSome) f j))), (5, .int (nI (f + j)))] [] := by
  intro k
  induction k with
  | zero =>
    intro j hj lt li hr
    have hcl := jp_cnt_le (fun g => (jg_lv G g).isSome) f j
    refine jr_iload (pc := 16) C dX1_rewrite_16 rfl ?_
    refine jr_bipush (pc := 18) (v := nI 16) C dX1_rewrite_18 (by decide) ?_
    refine jr_icmp_geN (tgt := 55) (pc := 20) C dX1_rewrite_20 (by decide) (by omega) (by omega) (fun c_20 => ?_) (fun c_20 => ?_)
    · refine jr_iload (pc := 55) C dX1_rewrite_55 rfl ?_
      exact hret _ _ _ _ dX1_rewrite_57 ⟨by rw [show 16 - f = j by omega], by rw [show 16 = f + j by omega]; exact mw_in hr⟩
    · exfalso; omega
  | succ k ih =>
    intro j hj lt li hr
    have hcl := jp_cnt_le (fun g => (jg_lv G g).isSome) f j
    have hL := mr_lv hr (f := f + j) (by omega)
    rw [show jg_lv (jg_sl G (sp_rw (jg_lv G) f c s (f + j))) (f + j) = jg_lv G (f + j) from sp_rw_at] at hL
    have hi := hL.1.symm
    refine jr_iload (pc := 16) C dX1_rewrite_16 rfl ?_
    refine jr_bipush (pc := 18) (v := nI 16) C dX1_rewrite_18 (by decide) ?_
    refine jr_icmp_geN (tgt := 55) (pc := 20) C dX1_rewrite_20 (by decide) (by omega) (by omega) (fun c_20 => ?_) (fun c_20 => ?_)
    · exfalso; omega
    · refine jr_aload_n (pc := 23) C dX1_rewrite_23 rfl ?_
      refine jm_g_lt (pc := 24) C dX1_rewrite_24 ?_
      refine jr_iload (pc := 27) C dX1_rewrite_27 rfl ?_
      refine jm_l_lt (pc := 29) C (by omega) dX1_rewrite_29 ?_
      refine jr_if_eqB (tgt := 49) (pc := 30) C dX1_rewrite_30 (by decide) (fun c_30 => ?_) (fun c_30 => ?_)
      · refine jr_inc (pc := 49) C dX1_rewrite_49 rfl (by decide) rfl ?_
        refine jr_goto (tgt := 16) (pc := 52) C dX1_rewrite_52 (by decide) ?_
        rw [c_30] at hi
        first
          | (rw [← jp_cnt_t (P := fun g => (jg_lv G g).isSome) hi]; refine ih (j + 1) (by omega) _ _ ?_; rw [show f + (j + 1) = f + j + 1 from rfl, ← sp_rw_t (Nat.le_add_right f j) hi]; refine mr_sl (G := jg_sl G (sp_rw (jg_lv G) f c s (f + j))) hr (fun g hg => ?_); have hg2 := mr_lv hr hg; unfold va_up; by_cases e : g = f + j; (rw [if_pos e, if_pos e]; exact ⟨by rw [e, c_30]; rfl, rfl⟩); (rw [if_neg e, if_neg e]; exact hg2))
          | (rw [← jp_cnt_f (P := fun g => (jg_lv G g).isSome) hi]; exact ih (j + 1) (by omega) _ _ (by rw [show f + (j + 1) = f + j + 1 from rfl, ← sp_rw_f hi]; exact hr))
      · refine jr_aload_n (pc := 33) C dX1_rewrite_33 rfl ?_
        refine jm_g_li (pc := 34) C dX1_rewrite_34 ?_
        refine jr_iload (pc := 37) C dX1_rewrite_37 rfl ?_
        refine jr_iload_n (pc := 39) C dX1_rewrite_39 rfl ?_
        refine jr_iload (pc := 40) C dX1_rewrite_40 rfl ?_
        refine jr_iload_n (pc := 42) C dX1_rewrite_42 rfl ?_
        refine jr_imul (pc := 43) C dX1_rewrite_43 ?_
        refine jr_iadd (pc := 44) C dX1_rewrite_44 ?_
        refine jm_s_li (pc := 45) C (by omega) dX1_rewrite_45 ?_
        refine jr_inc (pc := 46) C dX1_rewrite_46 rfl (by decide) rfl ?_
        refine jr_inc (pc := 49) C dX1_rewrite_49 rfl (by decide) rfl ?_
        refine jr_goto (tgt := 16) (pc := 52) C dX1_rewrite_52 (by decide) ?_
        rw [c_30] at hi
        first
          | (rw [← jp_cnt_t (P := fun g => (jg_lv G g).isSome) hi]; refine ih (j + 1) (by omega) _ _ ?_; rw [show f + (j + 1) = f + j + 1 from rfl, ← sp_rw_t (Nat.le_add_right f j) hi]; refine mr_sl (G := jg_sl G (sp_rw (jg_lv G) f c s (f + j))) hr (fun g hg => ?_); have hg2 := mr_lv hr hg; unfold va_up; by_cases e : g = f + j; (rw [if_pos e, if_pos e]; exact ⟨by rw [e, c_30]; rfl, rfl⟩); (rw [if_neg e, if_neg e]; exact hg2))
          | (rw [← jp_cnt_f (P := fun g => (jg_lv G g).isSome) hi]; exact ih (j + 1) (by omega) _ _ (by rw [show f + (j + 1) = f + j + 1 from rfl, ← sp_rw_f hi]; exact hr))
theorem mM_rewrite (hr : mr_R G lt li he ct dy pn) (a : Int32) (c : Int32) (s : Int32) : jw_Mi yX1_rewrite cX1_rewrite 6 (some .int) 1 D (tM cA) [.ref h, .int a, .int c, .int s] (wM h ad cA (jg_td G) lt li (jg_n G) he ct dy pn kp) (fun r w' => r = (sp_rewrite a c s G).1 ∧ mw_R h ad cA (sp_rewrite a c s G).2 w') := by
  have hn := mr_n hr
  cases hq : jp_ix a 16 with
  | none =>
    rw [show sp_rewrite a c s G = (-1, G) from by simp only [sp_rewrite, hq]]
    refine jw_Mi.of (own := RX1) (by decide) rfl (Nat.le_of_ble_eq_true rfl) (fun _ _ _ => rfl) ?_
    intro E hE C hret
    subst hE
    show jw_J E 6 _ 0 [(0, .ref h), (1, .int a), (2, .int c), (3, .int s)] []
    refine jr_aload_n (pc := 0) C dX1_rewrite_0 rfl ?_
    refine jr_iload_n (pc := 1) C dX1_rewrite_1 rfl ?_
    refine jr_calli (pc := 2) C gw_X1_36 ok_X1_badFile (mM_badFile _) rfl (by decide) (by decide) rfl rfl dX1_rewrite_2 rfl (Nat.le_of_ble_eq_true rfl) ?_
    rintro _ _ ⟨rfl, rfl⟩
    refine jr_if_eqB (tgt := 10) (pc := 5) C dX1_rewrite_5 (by decide) (fun c_5 => ?_) (fun c_5 => ?_)
    · simp [hq] at c_5
    · refine jr_iconst (pc := 8) (v := (-1)) C dX1_rewrite_8 (by decide) ?_
      exact hret _ _ _ _ dX1_rewrite_9 ⟨rfl, mw_in hr⟩
  | some f =>
    obtain ⟨hf, rfl⟩ := jp_ix_some hq
    rw [show sp_rewrite (nI f) c s G = (nI (jp_cnt (fun g => (jg_lv G g).isSome) f (16 - f)), jg_sl G (sp_rw (jg_lv G) f c s 16)) from by simp only [sp_rewrite, hq]]
    refine jw_Mi.of (own := RX1) (by decide) rfl (Nat.le_of_ble_eq_true rfl) (fun _ _ _ => rfl) ?_
    intro E hE C hret
    subst hE
    show jw_J E 6 _ 0 [(0, .ref h), (1, .int (nI f)), (2, .int c), (3, .int s)] []
    refine jr_aload_n (pc := 0) C dX1_rewrite_0 rfl ?_
    refine jr_iload_n (pc := 1) C dX1_rewrite_1 rfl ?_
    refine jr_calli (pc := 2) C gw_X1_36 ok_X1_badFile (mM_badFile _) rfl (by decide) (by decide) rfl rfl dX1_rewrite_2 rfl (Nat.le_of_ble_eq_true rfl) ?_
    rintro _ _ ⟨rfl, rfl⟩
    refine jr_if_eqB (tgt := 10) (pc := 5) C dX1_rewrite_5 (by decide) (fun c_5 => ?_) (fun c_5 => ?_)
    · refine jr_iconst (pc := 10) (v := nI 0) C dX1_rewrite_10 (by decide) ?_
      refine jr_istore (pc := 11) C dX1_rewrite_11 (by decide) rfl ?_
      refine jr_iload_n (pc := 13) C dX1_rewrite_13 rfl ?_
      refine jr_istore (pc := 14) C dX1_rewrite_14 (by decide) rfl ?_
      exact mM_rewrite_loop C hf hret (16 - f) 0 (by omega) _ _ (by rw [show f + 0 = f from rfl, sp_rw_0]; exact hr)
    · simp [hq] at c_5
theorem mM_restore_loop (C : jw_C E cX1_restore 4 RX1 (tM cA) 1) {p : Nat} (hp : p < jg_n G) (hret : ∀ pc lv v w', decode cX1_restore pc = .ok (.ireturn, 1) → (v = nI (jp_cnt (fun f => jp_ne (jg_V G p f) (jg_lv G f)) 0 16) ∧ mw_R h ad cA (jg_sl G (sp_rs (jg_lv G) (jg_V G p) 16)) w') → jw_J E 4 w' pc lv [.int v]) : ∀ (k g : Nat), g + k = 16 → ∀ (lt : Nat → Bool) (li : Nat → Int32) (he : Nat → Bool) (ct : Nat → Int32) (dy : Nat → Nat) (pn : Nat → Bool), mr_R (jg_sl G (sp_rs (jg_lv G) (jg_V G p) g)) lt li he ct dy pn → jw_J E 4 (wM h ad cA (jg_td G) lt li (jg_n G) he ct dy pn kp) 14 [(0, .ref h), (1, .int (nI p)), (2, .int (nI (jp_cnt (fun f => jp_ne (jg_V G p f) (jg_lv G f)) 0 g))), (3, .int (nI g))] [] := by
  intro k
  induction k with
  | zero =>
    intro g hg lt li he ct dy pn hr
    have hcl := jp_cnt_le (fun f => jp_ne (jg_V G p f) (jg_lv G f)) 0 g
    refine jr_iload_n (pc := 14) C dX1_restore_14 rfl ?_
    refine jr_bipush (pc := 15) (v := nI 16) C dX1_restore_15 (by decide) ?_
    refine jr_icmp_geN (tgt := 44) (pc := 17) C dX1_restore_17 (by decide) (by omega) (by omega) (fun c_17 => ?_) (fun c_17 => ?_)
    · refine jr_iload_n (pc := 44) C dX1_restore_44 rfl ?_
      exact hret _ _ _ _ dX1_restore_45 ⟨by rw [show 16 = g by omega], by rw [show 16 = g by omega]; exact mw_in hr⟩
    · exfalso; omega
  | succ k ih =>
    intro g hg lt li he ct dy pn hr
    have hn := mr_n hr
    have hn : jg_n G ≤ 14 := hn
    have hcl := jp_cnt_le (fun f => jp_ne (jg_V G p f) (jg_lv G f)) 0 g
    refine jr_iload_n (pc := 14) C dX1_restore_14 rfl ?_
    refine jr_bipush (pc := 15) (v := nI 16) C dX1_restore_15 (by decide) ?_
    refine jr_icmp_geN (tgt := 44) (pc := 17) C dX1_restore_17 (by decide) (by omega) (by omega) (fun c_17 => ?_) (fun c_17 => ?_)
    · exfalso; omega
    · refine jr_aload_n (pc := 20) C dX1_restore_20 rfl ?_
      refine jr_iload_n (pc := 21) C dX1_restore_21 rfl ?_
      refine jr_iload_n (pc := 22) C dX1_restore_22 rfl ?_
      refine jr_calli (pc := 23) C gw_X1_46 ok_X1_changed (mM_changed hr hp (by omega)) rfl (by decide) (by decide) rfl rfl dX1_restore_23 rfl (Nat.le_of_ble_eq_true rfl) ?_
      rintro _ _ ⟨rfl, rfl⟩
      rw [show jg_lv (jg_sl G (sp_rs (jg_lv G) (jg_V G p) g)) g = jg_lv G g from sp_rs_at]
      rw [show jg_V (jg_sl G (sp_rs (jg_lv G) (jg_V G p) g)) p g = jg_V G p g from rfl]
      refine jr_if_eqB (tgt := 32) (pc := 26) C dX1_restore_26 (by decide) (fun c_26 => ?_) (fun c_26 => ?_)
      · refine jr_aload_n (pc := 32) C dX1_restore_32 rfl ?_
        refine jr_iload_n (pc := 33) C dX1_restore_33 rfl ?_
        refine jr_iload_n (pc := 34) C dX1_restore_34 rfl ?_
        refine jr_callv (pc := 35) C gw_X1_50 ok_X1_back (mM_back hr hp (by omega)) rfl (by decide) (by decide) rfl rfl dX1_restore_35 rfl (Nat.le_of_ble_eq_true rfl) ?_
        rintro _ ⟨lt1, li1, he1, ct1, dy1, pn1, rfl, hr1⟩
        rw [show jg_sl (jg_sl G (sp_rs (jg_lv G) (jg_V G p) g)) (va_up (jg_lv (jg_sl G (sp_rs (jg_lv G) (jg_V G p) g))) g (jg_V (jg_sl G (sp_rs (jg_lv G) (jg_V G p) g)) p g)) = jg_sl G (sp_rs (jg_lv G) (jg_V G p) (g + 1)) from by rw [← sp_rs_t]] at hr1
        refine jr_inc (pc := 38) C dX1_restore_38 rfl (by decide) rfl ?_
        refine jr_goto (tgt := 14) (pc := 41) C dX1_restore_41 (by decide) ?_
        first
          | (rw [← jp_cnt_t (P := (fun f => jp_ne (jg_V G p f) (jg_lv G f))) (a := 0) (k := g) (by rw [Nat.zero_add]; exact c_26)]; exact ih (g + 1) (by omega) _ _ _ _ _ _ hr1)
          | (rw [← jp_cnt_f (P := (fun f => jp_ne (jg_V G p f) (jg_lv G f))) (a := 0) (k := g) (by rw [Nat.zero_add]; exact c_26)]; exact ih (g + 1) (by omega) _ _ _ _ _ _ hr1)
      · refine jr_inc (pc := 29) C dX1_restore_29 rfl (by decide) rfl ?_
        refine jr_aload_n (pc := 32) C dX1_restore_32 rfl ?_
        refine jr_iload_n (pc := 33) C dX1_restore_33 rfl ?_
        refine jr_iload_n (pc := 34) C dX1_restore_34 rfl ?_
        refine jr_callv (pc := 35) C gw_X1_50 ok_X1_back (mM_back hr hp (by omega)) rfl (by decide) (by decide) rfl rfl dX1_restore_35 rfl (Nat.le_of_ble_eq_true rfl) ?_
        rintro _ ⟨lt1, li1, he1, ct1, dy1, pn1, rfl, hr1⟩
        rw [show jg_sl (jg_sl G (sp_rs (jg_lv G) (jg_V G p) g)) (va_up (jg_lv (jg_sl G (sp_rs (jg_lv G) (jg_V G p) g))) g (jg_V (jg_sl G (sp_rs (jg_lv G) (jg_V G p) g)) p g)) = jg_sl G (sp_rs (jg_lv G) (jg_V G p) (g + 1)) from by rw [← sp_rs_t]] at hr1
        refine jr_inc (pc := 38) C dX1_restore_38 rfl (by decide) rfl ?_
        refine jr_goto (tgt := 14) (pc := 41) C dX1_restore_41 (by decide) ?_
        first
          | (rw [← jp_cnt_t (P := (fun f => jp_ne (jg_V G p f) (jg_lv G f))) (a := 0) (k := g) (by rw [Nat.zero_add]; exact c_26)]; exact ih (g + 1) (by omega) _ _ _ _ _ _ hr1)
          | (rw [← jp_cnt_f (P := (fun f => jp_ne (jg_V G p f) (jg_lv G f))) (a := 0) (k := g) (by rw [Nat.zero_add]; exact c_26)]; exact ih (g + 1) (by omega) _ _ _ _ _ _ hr1)
theorem mM_restore (hr : mr_R G lt li he ct dy pn) (a : Int32) : jw_Mi yX1_restore cX1_restore 4 (some .int) 1 D (tM cA) [.ref h, .int a] (wM h ad cA (jg_td G) lt li (jg_n G) he ct dy pn kp) (fun r w' => r = (sp_restore a G).1 ∧ mw_R h ad cA (sp_restore a G).2 w') := by
  have hn := mr_n hr
  cases hq : jp_ix a (jg_n G) with
  | none =>
    rw [show sp_restore a G = (-1, G) from by simp only [sp_restore, hq]]
    refine jw_Mi.of (own := RX1) (by decide) rfl (Nat.le_of_ble_eq_true rfl) (fun _ _ _ => rfl) ?_
    intro E hE C hret
    subst hE
    show jw_J E 4 _ 0 [(0, .ref h), (1, .int a)] []
    refine jr_aload_n (pc := 0) C dX1_restore_0 rfl ?_
    refine jr_iload_n (pc := 1) C dX1_restore_1 rfl ?_
    refine jr_calli (pc := 2) C gw_X1_43 ok_X1_badPoint (mM_badPoint _ (by omega)) rfl (by decide) (by decide) rfl rfl dX1_restore_2 rfl (Nat.le_of_ble_eq_true rfl) ?_
    rintro _ _ ⟨rfl, rfl⟩
    refine jr_if_eqB (tgt := 10) (pc := 5) C dX1_restore_5 (by decide) (fun c_5 => ?_) (fun c_5 => ?_)
    · simp [hq] at c_5
    · refine jr_iconst (pc := 8) (v := (-1)) C dX1_restore_8 (by decide) ?_
      exact hret _ _ _ _ dX1_restore_9 ⟨rfl, mw_in hr⟩
  | some p =>
    obtain ⟨hp, rfl⟩ := jp_ix_some hq
    rw [show sp_restore (nI p) G = (nI (jp_cnt (fun f => jp_ne (jg_V G p f) (jg_lv G f)) 0 16), jg_sl G (sp_rs (jg_lv G) (jg_V G p) 16)) from by simp only [sp_restore, hq]]
    refine jw_Mi.of (own := RX1) (by decide) rfl (Nat.le_of_ble_eq_true rfl) (fun _ _ _ => rfl) ?_
    intro E hE C hret
    subst hE
    show jw_J E 4 _ 0 [(0, .ref h), (1, .int (nI p))] []
    refine jr_aload_n (pc := 0) C dX1_restore_0 rfl ?_
    refine jr_iload_n (pc := 1) C dX1_restore_1 rfl ?_
    refine jr_calli (pc := 2) C gw_X1_43 ok_X1_badPoint (mM_badPoint _ (by omega)) rfl (by decide) (by decide) rfl rfl dX1_restore_2 rfl (Nat.le_of_ble_eq_true rfl) ?_
    rintro _ _ ⟨rfl, rfl⟩
    refine jr_if_eqB (tgt := 10) (pc := 5) C dX1_restore_5 (by decide) (fun c_5 => ?_) (fun c_5 => ?_)
    · refine jr_iconst (pc := 10) (v := nI 0) C dX1_restore_10 (by decide) ?_
      refine jr_istore_n (pc := 11) C dX1_restore_11 (by decide) rfl ?_
      refine jr_iconst (pc := 12) (v := nI 0) C dX1_restore_12 (by decide) ?_
      refine jr_istore_n (pc := 13) C dX1_restore_13 (by decide) rfl ?_
      exact mM_restore_loop C hp hret 16 0 (by omega) _ _ _ _ _ _ (by rw [sp_rs_0]; exact hr)
    · simp [hq] at c_5
theorem mM_differing_loop (C : jw_C E cX1_differing 5 RX1 (tM cA) 1) (hr : mr_R G lt li he ct dy pn) {p q : Nat} (hp : p < jg_n G) (hq : q < jg_n G) (hret : ∀ pc lv v w', decode cX1_differing pc = .ok (.ireturn, 1) → (v = nI (jp_cnt (fun f => jp_ne (jg_V G p f) (jg_V G q f)) 0 16) ∧ mw_R h ad cA G w') → jw_J E 5 w' pc lv [.int v]) : ∀ (k g : Nat), g + k = 16 → jw_J E 5 (wM h ad cA (jg_td G) lt li (jg_n G) he ct dy pn kp) 23 [(0, .ref h), (1, .int (nI p)), (2, .int (nI q)), (3, .int (nI (jp_cnt (fun f => jp_ne (jg_V G p f) (jg_V G q f)) 0 g))), (4, .int (nI g))] [] := by
  intro k
  have hn := mr_n hr
  induction k with
  | zero =>
    intro g hg
    have hcl := jp_cnt_le (fun f => jp_ne (jg_V G p f) (jg_V G q f)) 0 g
    refine jr_iload (pc := 23) C dX1_differing_23 rfl ?_
    refine jr_bipush (pc := 25) (v := nI 16) C dX1_differing_25 (by decide) ?_
    refine jr_icmp_geN (tgt := 50) (pc := 27) C dX1_differing_27 (by decide) (by omega) (by omega) (fun c_27 => ?_) (fun c_27 => ?_)
    · refine jr_iload_n (pc := 50) C dX1_differing_50 rfl ?_
      exact hret _ _ _ _ dX1_differing_51 ⟨by rw [show 16 = g by omega], mw_in hr⟩
    · exfalso; omega
  | succ k ih =>
    intro g hg
    have hcl := jp_cnt_le (fun f => jp_ne (jg_V G p f) (jg_V G q f)) 0 g
    refine jr_iload (pc := 23) C dX1_differing_23 rfl ?_
    refine jr_bipush (pc := 25) (v := nI 16) C dX1_differing_25 (by decide) ?_
    refine jr_icmp_geN (tgt := 50) (pc := 27) C dX1_differing_27 (by decide) (by omega) (by omega) (fun c_27 => ?_) (fun c_27 => ?_)
    · exfalso; omega
    · refine jr_aload_n (pc := 30) C dX1_differing_30 rfl ?_
      refine jr_iload_n (pc := 31) C dX1_differing_31 rfl ?_
      refine jr_iload_n (pc := 32) C dX1_differing_32 rfl ?_
      refine jr_iload (pc := 33) C dX1_differing_33 rfl ?_
      refine jr_calli (pc := 35) C gw_X1_64 ok_X1_differ (mM_differ hr hp hq (by omega)) rfl (by decide) (by decide) rfl rfl dX1_differing_35 rfl (Nat.le_of_ble_eq_true rfl) ?_
      rintro _ _ ⟨rfl, rfl⟩
      refine jr_if_eqB (tgt := 44) (pc := 38) C dX1_differing_38 (by decide) (fun c_38 => ?_) (fun c_38 => ?_)
      · refine jr_inc (pc := 44) C dX1_differing_44 rfl (by decide) rfl ?_
        refine jr_goto (tgt := 23) (pc := 47) C dX1_differing_47 (by decide) ?_
        first
          | (rw [← jp_cnt_t (P := (fun f => jp_ne (jg_V G p f) (jg_V G q f))) (a := 0) (k := g) (by rw [Nat.zero_add]; exact c_38)]; exact ih (g + 1) (by omega))
          | (rw [← jp_cnt_f (P := (fun f => jp_ne (jg_V G p f) (jg_V G q f))) (a := 0) (k := g) (by rw [Nat.zero_add]; exact c_38)]; exact ih (g + 1) (by omega))
      · refine jr_inc (pc := 41) C dX1_differing_41 rfl (by decide) rfl ?_
        refine jr_inc (pc := 44) C dX1_differing_44 rfl (by decide) rfl ?_
        refine jr_goto (tgt := 23) (pc := 47) C dX1_differing_47 (by decide) ?_
        first
          | (rw [← jp_cnt_t (P := (fun f => jp_ne (jg_V G p f) (jg_V G q f))) (a := 0) (k := g) (by rw [Nat.zero_add]; exact c_38)]; exact ih (g + 1) (by omega))
          | (rw [← jp_cnt_f (P := (fun f => jp_ne (jg_V G p f) (jg_V G q f))) (a := 0) (k := g) (by rw [Nat.zero_add]; exact c_38)]; exact ih (g + 1) (by omega))
theorem mM_differing (hr : mr_R G lt li he ct dy pn) (a : Int32) (b : Int32) : jw_Mi yX1_differing cX1_differing 5 (some .int) 1 D (tM cA) [.ref h, .int a, .int b] (wM h ad cA (jg_td G) lt li (jg_n G) he ct dy pn kp) (fun r w' => r = (sp_differing a b G).1 ∧ mw_R h ad cA (sp_differing a b G).2 w') := by
  have hn := mr_n hr
  cases hq : jp_ix a (jg_n G) with
  | none =>
    rw [show sp_differing a b G = (-1, G) from by simp only [sp_differing, hq]]
    refine jw_Mi.of (own := RX1) (by decide) rfl (Nat.le_of_ble_eq_true rfl) (fun _ _ _ => rfl) ?_
    intro E hE C hret
    subst hE
    show jw_J E 5 _ 0 [(0, .ref h), (1, .int a), (2, .int b)] []
    refine jr_aload_n (pc := 0) C dX1_differing_0 rfl ?_
    refine jr_iload_n (pc := 1) C dX1_differing_1 rfl ?_
    refine jr_calli (pc := 2) C gw_X1_43 ok_X1_badPoint (mM_badPoint _ (by omega)) rfl (by decide) (by decide) rfl rfl dX1_differing_2 rfl (Nat.le_of_ble_eq_true rfl) ?_
    rintro _ _ ⟨rfl, rfl⟩
    refine jr_if_neB (tgt := 16) (pc := 5) C dX1_differing_5 (by decide) (fun c_5 => ?_) (fun c_5 => ?_)
    · refine jr_iconst (pc := 16) (v := (-1)) C dX1_differing_16 (by decide) ?_
      exact hret _ _ _ _ dX1_differing_17 ⟨rfl, mw_in hr⟩
    · simp [hq] at c_5
  | some p =>
    obtain ⟨hp, rfl⟩ := jp_ix_some hq
    cases hq2 : jp_ix b (jg_n G) with
    | none =>
      rw [show sp_differing (nI p) b G = (-1, G) from by simp only [sp_differing, hq, hq2]]
      refine jw_Mi.of (own := RX1) (by decide) rfl (Nat.le_of_ble_eq_true rfl) (fun _ _ _ => rfl) ?_
      intro E hE C hret
      subst hE
      show jw_J E 5 _ 0 [(0, .ref h), (1, .int (nI p)), (2, .int b)] []
      refine jr_aload_n (pc := 0) C dX1_differing_0 rfl ?_
      refine jr_iload_n (pc := 1) C dX1_differing_1 rfl ?_
      refine jr_calli (pc := 2) C gw_X1_43 ok_X1_badPoint (mM_badPoint _ (by omega)) rfl (by decide) (by decide) rfl rfl dX1_differing_2 rfl (Nat.le_of_ble_eq_true rfl) ?_
      rintro _ _ ⟨rfl, rfl⟩
      refine jr_if_neB (tgt := 16) (pc := 5) C dX1_differing_5 (by decide) (fun c_5 => ?_) (fun c_5 => ?_)
      · simp [hq] at c_5
      · refine jr_aload_n (pc := 8) C dX1_differing_8 rfl ?_
        refine jr_iload_n (pc := 9) C dX1_differing_9 rfl ?_
        refine jr_calli (pc := 10) C gw_X1_43 ok_X1_badPoint (mM_badPoint _ (by omega)) rfl (by decide) (by decide) rfl rfl dX1_differing_10 rfl (Nat.le_of_ble_eq_true rfl) ?_
        rintro _ _ ⟨rfl, rfl⟩
        refine jr_if_eqB (tgt := 18) (pc := 13) C dX1_differing_13 (by decide) (fun c_13 => ?_) (fun c_13 => ?_)
        · simp [hq2] at c_13
        · refine jr_iconst (pc := 16) (v := (-1)) C dX1_differing_16 (by decide) ?_
          exact hret _ _ _ _ dX1_differing_17 ⟨rfl, mw_in hr⟩
    | some q =>
      obtain ⟨hq3, rfl⟩ := jp_ix_some hq2
      rw [show sp_differing (nI p) (nI q) G = (nI (jp_cnt (fun f => jp_ne (jg_V G p f) (jg_V G q f)) 0 16), G) from by simp only [sp_differing, hq, hq2]]
      refine jw_Mi.of (own := RX1) (by decide) rfl (Nat.le_of_ble_eq_true rfl) (fun _ _ _ => rfl) ?_
      intro E hE C hret
      subst hE
      show jw_J E 5 _ 0 [(0, .ref h), (1, .int (nI p)), (2, .int (nI q))] []
      refine jr_aload_n (pc := 0) C dX1_differing_0 rfl ?_
      refine jr_iload_n (pc := 1) C dX1_differing_1 rfl ?_
      refine jr_calli (pc := 2) C gw_X1_43 ok_X1_badPoint (mM_badPoint _ (by omega)) rfl (by decide) (by decide) rfl rfl dX1_differing_2 rfl (Nat.le_of_ble_eq_true rfl) ?_
      rintro _ _ ⟨rfl, rfl⟩
      refine jr_if_neB (tgt := 16) (pc := 5) C dX1_differing_5 (by decide) (fun c_5 => ?_) (fun c_5 => ?_)
      · simp [hq] at c_5
      · refine jr_aload_n (pc := 8) C dX1_differing_8 rfl ?_
        refine jr_iload_n (pc := 9) C dX1_differing_9 rfl ?_
        refine jr_calli (pc := 10) C gw_X1_43 ok_X1_badPoint (mM_badPoint _ (by omega)) rfl (by decide) (by decide) rfl rfl dX1_differing_10 rfl (Nat.le_of_ble_eq_true rfl) ?_
        rintro _ _ ⟨rfl, rfl⟩
        refine jr_if_eqB (tgt := 18) (pc := 13) C dX1_differing_13 (by decide) (fun c_13 => ?_) (fun c_13 => ?_)
        · refine jr_iconst (pc := 18) (v := nI 0) C dX1_differing_18 (by decide) ?_
          refine jr_istore_n (pc := 19) C dX1_differing_19 (by decide) rfl ?_
          refine jr_iconst (pc := 20) (v := nI 0) C dX1_differing_20 (by decide) ?_
          refine jr_istore (pc := 21) C dX1_differing_21 (by decide) rfl ?_
          exact mM_differing_loop C hr hp hq3 hret 16 0 (by omega)
        · simp [hq2] at c_13
theorem mM_changedSince_loop (C : jw_C E cX1_changedSince 4 RX1 (tM cA) 1) (hr : mr_R G lt li he ct dy pn) {p : Nat} (hp : p < jg_n G) (hret : ∀ pc lv v w', decode cX1_changedSince pc = .ok (.ireturn, 1) → (v = nI (jp_cnt (fun f => jp_ne (jg_V G p f) (jg_lv G f)) 0 16) ∧ mw_R h ad cA G w') → jw_J E 4 w' pc lv [.int v]) : ∀ (k g : Nat), g + k = 16 → jw_J E 4 (wM h ad cA (jg_td G) lt li (jg_n G) he ct dy pn kp) 14 [(0, .ref h), (1, .int (nI p)), (2, .int (nI (jp_cnt (fun f => jp_ne (jg_V G p f) (jg_lv G f)) 0 g))), (3, .int (nI g))] [] := by
  intro k
  have hn := mr_n hr
  induction k with
  | zero =>
    intro g hg
    have hcl := jp_cnt_le (fun f => jp_ne (jg_V G p f) (jg_lv G f)) 0 g
    refine jr_iload_n (pc := 14) C dX1_changedSince_14 rfl ?_
    refine jr_bipush (pc := 15) (v := nI 16) C dX1_changedSince_15 (by decide) ?_
    refine jr_icmp_geN (tgt := 38) (pc := 17) C dX1_changedSince_17 (by decide) (by omega) (by omega) (fun c_17 => ?_) (fun c_17 => ?_)
    · refine jr_iload_n (pc := 38) C dX1_changedSince_38 rfl ?_
      exact hret _ _ _ _ dX1_changedSince_39 ⟨by rw [show 16 = g by omega], mw_in hr⟩
    · exfalso; omega
  | succ k ih =>
    intro g hg
    have hcl := jp_cnt_le (fun f => jp_ne (jg_V G p f) (jg_lv G f)) 0 g
    refine jr_iload_n (pc := 14) C dX1_changedSince_14 rfl ?_
    refine jr_bipush (pc := 15) (v := nI 16) C dX1_changedSince_15 (by decide) ?_
    refine jr_icmp_geN (tgt := 38) (pc := 17) C dX1_changedSince_17 (by decide) (by omega) (by omega) (fun c_17 => ?_) (fun c_17 => ?_)
    · exfalso; omega
    · refine jr_aload_n (pc := 20) C dX1_changedSince_20 rfl ?_
      refine jr_iload_n (pc := 21) C dX1_changedSince_21 rfl ?_
      refine jr_iload_n (pc := 22) C dX1_changedSince_22 rfl ?_
      refine jr_calli (pc := 23) C gw_X1_46 ok_X1_changed (mM_changed hr hp (by omega)) rfl (by decide) (by decide) rfl rfl dX1_changedSince_23 rfl (Nat.le_of_ble_eq_true rfl) ?_
      rintro _ _ ⟨rfl, rfl⟩
      refine jr_if_eqB (tgt := 32) (pc := 26) C dX1_changedSince_26 (by decide) (fun c_26 => ?_) (fun c_26 => ?_)
      · refine jr_inc (pc := 32) C dX1_changedSince_32 rfl (by decide) rfl ?_
        refine jr_goto (tgt := 14) (pc := 35) C dX1_changedSince_35 (by decide) ?_
        first
          | (rw [← jp_cnt_t (P := (fun f => jp_ne (jg_V G p f) (jg_lv G f))) (a := 0) (k := g) (by rw [Nat.zero_add]; exact c_26)]; exact ih (g + 1) (by omega))
          | (rw [← jp_cnt_f (P := (fun f => jp_ne (jg_V G p f) (jg_lv G f))) (a := 0) (k := g) (by rw [Nat.zero_add]; exact c_26)]; exact ih (g + 1) (by omega))
      · refine jr_inc (pc := 29) C dX1_changedSince_29 rfl (by decide) rfl ?_
        refine jr_inc (pc := 32) C dX1_changedSince_32 rfl (by decide) rfl ?_
        refine jr_goto (tgt := 14) (pc := 35) C dX1_changedSince_35 (by decide) ?_
        first
          | (rw [← jp_cnt_t (P := (fun f => jp_ne (jg_V G p f) (jg_lv G f))) (a := 0) (k := g) (by rw [Nat.zero_add]; exact c_26)]; exact ih (g + 1) (by omega))
          | (rw [← jp_cnt_f (P := (fun f => jp_ne (jg_V G p f) (jg_lv G f))) (a := 0) (k := g) (by rw [Nat.zero_add]; exact c_26)]; exact ih (g + 1) (by omega))
theorem mM_changedSince (hr : mr_R G lt li he ct dy pn) (a : Int32) : jw_Mi yX1_changedSince cX1_changedSince 4 (some .int) 1 D (tM cA) [.ref h, .int a] (wM h ad cA (jg_td G) lt li (jg_n G) he ct dy pn kp) (fun r w' => r = (sp_changedSince a G).1 ∧ mw_R h ad cA (sp_changedSince a G).2 w') := by
  have hn := mr_n hr
  cases hq : jp_ix a (jg_n G) with
  | none =>
    rw [show sp_changedSince a G = (-1, G) from by simp only [sp_changedSince, hq]]
    refine jw_Mi.of (own := RX1) (by decide) rfl (Nat.le_of_ble_eq_true rfl) (fun _ _ _ => rfl) ?_
    intro E hE C hret
    subst hE
    show jw_J E 4 _ 0 [(0, .ref h), (1, .int a)] []
    refine jr_aload_n (pc := 0) C dX1_changedSince_0 rfl ?_
    refine jr_iload_n (pc := 1) C dX1_changedSince_1 rfl ?_
    refine jr_calli (pc := 2) C gw_X1_43 ok_X1_badPoint (mM_badPoint _ (by omega)) rfl (by decide) (by decide) rfl rfl dX1_changedSince_2 rfl (Nat.le_of_ble_eq_true rfl) ?_
    rintro _ _ ⟨rfl, rfl⟩
    refine jr_if_eqB (tgt := 10) (pc := 5) C dX1_changedSince_5 (by decide) (fun c_5 => ?_) (fun c_5 => ?_)
    · simp [hq] at c_5
    · refine jr_iconst (pc := 8) (v := (-1)) C dX1_changedSince_8 (by decide) ?_
      exact hret _ _ _ _ dX1_changedSince_9 ⟨rfl, mw_in hr⟩
  | some p =>
    obtain ⟨hp, rfl⟩ := jp_ix_some hq
    rw [show sp_changedSince (nI p) G = (nI (jp_cnt (fun f => jp_ne (jg_V G p f) (jg_lv G f)) 0 16), G) from by simp only [sp_changedSince, hq]]
    refine jw_Mi.of (own := RX1) (by decide) rfl (Nat.le_of_ble_eq_true rfl) (fun _ _ _ => rfl) ?_
    intro E hE C hret
    subst hE
    show jw_J E 4 _ 0 [(0, .ref h), (1, .int (nI p))] []
    refine jr_aload_n (pc := 0) C dX1_changedSince_0 rfl ?_
    refine jr_iload_n (pc := 1) C dX1_changedSince_1 rfl ?_
    refine jr_calli (pc := 2) C gw_X1_43 ok_X1_badPoint (mM_badPoint _ (by omega)) rfl (by decide) (by decide) rfl rfl dX1_changedSince_2 rfl (Nat.le_of_ble_eq_true rfl) ?_
    rintro _ _ ⟨rfl, rfl⟩
    refine jr_if_eqB (tgt := 10) (pc := 5) C dX1_changedSince_5 (by decide) (fun c_5 => ?_) (fun c_5 => ?_)
    · refine jr_iconst (pc := 10) (v := nI 0) C dX1_changedSince_10 (by decide) ?_
      refine jr_istore_n (pc := 11) C dX1_changedSince_11 (by decide) rfl ?_
      refine jr_iconst (pc := 12) (v := nI 0) C dX1_changedSince_12 (by decide) ?_
      refine jr_istore_n (pc := 13) C dX1_changedSince_13 (by decide) rfl ?_
      exact mM_changedSince_loop C hr hp hret 16 0 (by omega)
    · simp [hq] at c_5
theorem mM_versions_loop (C : jw_C E cX1_versions 4 RX1 (tM cA) 1) (hr : mr_R G lt li he ct dy pn) {f : Nat} (hf : f < 16) (hret : ∀ pc lv v w', decode cX1_versions pc = .ok (.ireturn, 1) → (v = nI (jp_cnt (fun p => jp_ne (jg_V G (p - 1) f) (jg_V G p f)) 1 (jg_n G - 1)) ∧ mw_R h ad cA G w') → jw_J E 4 w' pc lv [.int v]) : ∀ (k j : Nat), j + k = jg_n G - 1 → jw_J E 4 (wM h ad cA (jg_td G) lt li (jg_n G) he ct dy pn kp) 14 [(0, .ref h), (1, .int (nI f)), (2, .int (nI (jp_cnt (fun p => jp_ne (jg_V G (p - 1) f) (jg_V G p f)) 1 j))), (3, .int (nI (1 + j)))] [] := by
  intro k
  have hn := mr_n hr
  induction k with
  | zero =>
    intro j hj
    have hcl := jp_cnt_le (fun p => jp_ne (jg_V G (p - 1) f) (jg_V G p f)) 1 j
    refine jr_iload_n (pc := 14) C dX1_versions_14 rfl ?_
    refine jr_aload_n (pc := 15) C dX1_versions_15 rfl ?_
    refine jm_g_n (pc := 16) C dX1_versions_16 ?_
    refine jr_icmp_geN (tgt := 49) (pc := 19) C dX1_versions_19 (by decide) (by omega) (by omega) (fun c_19 => ?_) (fun c_19 => ?_)
    · refine jr_iload_n (pc := 49) C dX1_versions_49 rfl ?_
      exact hret _ _ _ _ dX1_versions_50 ⟨by rw [show jg_n G - 1 = j by omega], mw_in hr⟩
    · exfalso; omega
  | succ k ih =>
    intro j hj
    have hcl := jp_cnt_le (fun p => jp_ne (jg_V G (p - 1) f) (jg_V G p f)) 1 j
    refine jr_iload_n (pc := 14) C dX1_versions_14 rfl ?_
    refine jr_aload_n (pc := 15) C dX1_versions_15 rfl ?_
    refine jm_g_n (pc := 16) C dX1_versions_16 ?_
    refine jr_icmp_geN (tgt := 49) (pc := 19) C dX1_versions_19 (by decide) (by omega) (by omega) (fun c_19 => ?_) (fun c_19 => ?_)
    · exfalso; omega
    · refine jr_iload_n (pc := 22) C dX1_versions_22 rfl ?_
      refine jr_bipush (pc := 23) (v := nI 14) C dX1_versions_23 (by decide) ?_
      refine jr_icmp_geN (tgt := 49) (pc := 25) C dX1_versions_25 (by decide) (by omega) (by omega) (fun c_25 => ?_) (fun c_25 => ?_)
      · exfalso; omega
      · refine jr_aload_n (pc := 28) C dX1_versions_28 rfl ?_
        refine jr_iload_n (pc := 29) C dX1_versions_29 rfl ?_
        refine jr_iload_n (pc := 30) C dX1_versions_30 rfl ?_
        refine jr_iconst (pc := 31) (v := nI 1) C dX1_versions_31 (by decide) ?_
        refine jr_isubN (pc := 32) C dX1_versions_32 (by omega) ?_
        refine jr_iload_n (pc := 33) C dX1_versions_33 rfl ?_
        refine jr_calli (pc := 34) C gw_X1_64 ok_X1_differ (mM_differ hr (p := 1 + j) (q := 1 + j - 1) (by omega) (by omega) hf) rfl (by decide) (by decide) rfl rfl dX1_versions_34 rfl (Nat.le_of_ble_eq_true rfl) ?_
        rintro _ _ ⟨rfl, rfl⟩
        rw [jp_ne_symm]
        refine jr_if_eqB (tgt := 43) (pc := 37) C dX1_versions_37 (by decide) (fun c_37 => ?_) (fun c_37 => ?_)
        · refine jr_inc (pc := 43) C dX1_versions_43 rfl (by decide) rfl ?_
          refine jr_goto (tgt := 14) (pc := 46) C dX1_versions_46 (by decide) ?_
          first
            | (rw [← jp_cnt_t (P := (fun p => jp_ne (jg_V G (p - 1) f) (jg_V G p f))) (a := 1) (k := j) (c_37)]; exact ih (j + 1) (by omega))
            | (rw [← jp_cnt_f (P := (fun p => jp_ne (jg_V G (p - 1) f) (jg_V G p f))) (a := 1) (k := j) (c_37)]; exact ih (j + 1) (by omega))
        · refine jr_inc (pc := 40) C dX1_versions_40 rfl (by decide) rfl ?_
          refine jr_inc (pc := 43) C dX1_versions_43 rfl (by decide) rfl ?_
          refine jr_goto (tgt := 14) (pc := 46) C dX1_versions_46 (by decide) ?_
          first
            | (rw [← jp_cnt_t (P := (fun p => jp_ne (jg_V G (p - 1) f) (jg_V G p f))) (a := 1) (k := j) (c_37)]; exact ih (j + 1) (by omega))
            | (rw [← jp_cnt_f (P := (fun p => jp_ne (jg_V G (p - 1) f) (jg_V G p f))) (a := 1) (k := j) (c_37)]; exact ih (j + 1) (by omega))
theorem mM_versions (hr : mr_R G lt li he ct dy pn) (a : Int32) : jw_Mi yX1_versions cX1_versions 4 (some .int) 1 D (tM cA) [.ref h, .int a] (wM h ad cA (jg_td G) lt li (jg_n G) he ct dy pn kp) (fun r w' => r = (sp_versions a G).1 ∧ mw_R h ad cA (sp_versions a G).2 w') := by
  have hn := mr_n hr
  cases hq : jp_ix a 16 with
  | none =>
    rw [show sp_versions a G = (-1, G) from by simp only [sp_versions, hq]]
    refine jw_Mi.of (own := RX1) (by decide) rfl (Nat.le_of_ble_eq_true rfl) (fun _ _ _ => rfl) ?_
    intro E hE C hret
    subst hE
    show jw_J E 4 _ 0 [(0, .ref h), (1, .int a)] []
    refine jr_aload_n (pc := 0) C dX1_versions_0 rfl ?_
    refine jr_iload_n (pc := 1) C dX1_versions_1 rfl ?_
    refine jr_calli (pc := 2) C gw_X1_36 ok_X1_badFile (mM_badFile _) rfl (by decide) (by decide) rfl rfl dX1_versions_2 rfl (Nat.le_of_ble_eq_true rfl) ?_
    rintro _ _ ⟨rfl, rfl⟩
    refine jr_if_eqB (tgt := 10) (pc := 5) C dX1_versions_5 (by decide) (fun c_5 => ?_) (fun c_5 => ?_)
    · simp [hq] at c_5
    · refine jr_iconst (pc := 8) (v := (-1)) C dX1_versions_8 (by decide) ?_
      exact hret _ _ _ _ dX1_versions_9 ⟨rfl, mw_in hr⟩
  | some f =>
    obtain ⟨hf, rfl⟩ := jp_ix_some hq
    rw [show sp_versions (nI f) G = (nI (jp_cnt (fun p => jp_ne (jg_V G (p - 1) f) (jg_V G p f)) 1 (jg_n G - 1)), G) from by simp only [sp_versions, hq]]
    refine jw_Mi.of (own := RX1) (by decide) rfl (Nat.le_of_ble_eq_true rfl) (fun _ _ _ => rfl) ?_
    intro E hE C hret
    subst hE
    show jw_J E 4 _ 0 [(0, .ref h), (1, .int (nI f))] []
    refine jr_aload_n (pc := 0) C dX1_versions_0 rfl ?_
    refine jr_iload_n (pc := 1) C dX1_versions_1 rfl ?_
    refine jr_calli (pc := 2) C gw_X1_36 ok_X1_badFile (mM_badFile _) rfl (by decide) (by decide) rfl rfl dX1_versions_2 rfl (Nat.le_of_ble_eq_true rfl) ?_
    rintro _ _ ⟨rfl, rfl⟩
    refine jr_if_eqB (tgt := 10) (pc := 5) C dX1_versions_5 (by decide) (fun c_5 => ?_) (fun c_5 => ?_)
    · refine jr_iconst (pc := 10) (v := nI 0) C dX1_versions_10 (by decide) ?_
      refine jr_istore_n (pc := 11) C dX1_versions_11 (by decide) rfl ?_
      refine jr_iconst (pc := 12) (v := nI 1) C dX1_versions_12 (by decide) ?_
      refine jr_istore_n (pc := 13) C dX1_versions_13 (by decide) rfl ?_
      exact mM_versions_loop C hr hf hret (jg_n G - 1) 0 (by omega)
    · simp [hq] at c_5
theorem mM_sum_loop (C : jw_C E cX1_sum 4 RX1 (tM cA) 1) (hr : mr_R G lt li he ct dy pn) {p : Nat} (hp : p < jg_n G) (hret : ∀ pc lv v w', decode cX1_sum pc = .ok (.ireturn, 1) → (v = jp_sum (fun f => (jg_V G p f).getD 0) 16 ∧ mw_R h ad cA G w') → jw_J E 4 w' pc lv [.int v]) : ∀ (k g : Nat), g + k = 16 → jw_J E 4 (wM h ad cA (jg_td G) lt li (jg_n G) he ct dy pn kp) 14 [(0, .ref h), (1, .int (nI p)), (2, .int (jp_sum (fun f => (jg_V G p f).getD 0) g)), (3, .int (nI g))] [] := by
  intro k
  have hn := mr_n hr
  induction k with
  | zero =>
    intro g hg
    refine jr_iload_n (pc := 14) C dX1_sum_14 rfl ?_
    refine jr_bipush (pc := 15) (v := nI 16) C dX1_sum_15 (by decide) ?_
    refine jr_icmp_geN (tgt := 54) (pc := 17) C dX1_sum_17 (by decide) (by omega) (by omega) (fun c_17 => ?_) (fun c_17 => ?_)
    · refine jr_iload_n (pc := 54) C dX1_sum_54 rfl ?_
      exact hret _ _ _ _ dX1_sum_55 ⟨by rw [show 16 = g by omega], mw_in hr⟩
    · exfalso; omega
  | succ k ih =>
    intro g hg
    have hV := mr_V hr hp (f := g) (by omega)
    refine jr_iload_n (pc := 14) C dX1_sum_14 rfl ?_
    refine jr_bipush (pc := 15) (v := nI 16) C dX1_sum_15 (by decide) ?_
    refine jr_icmp_geN (tgt := 54) (pc := 17) C dX1_sum_17 (by decide) (by omega) (by omega) (fun c_17 => ?_) (fun c_17 => ?_)
    · exfalso; omega
    · refine jr_aload_n (pc := 20) C dX1_sum_20 rfl ?_
      refine jm_g_he (pc := 21) C dX1_sum_21 ?_
      refine jr_bipush (pc := 24) (v := nI 16) C dX1_sum_24 (by decide) ?_
      refine jr_iload_n (pc := 26) C dX1_sum_26 rfl ?_
      refine jr_imulN (pc := 27) C dX1_sum_27 ?_
      refine jr_iload_n (pc := 28) C dX1_sum_28 rfl ?_
      refine jr_iaddN (pc := 29) C dX1_sum_29 ?_
      refine jm_l_he (pc := 30) C (by omega) dX1_sum_30 ?_
      refine jr_if_eqB (tgt := 48) (pc := 31) C dX1_sum_31 (by decide) (fun c_31 => ?_) (fun c_31 => ?_)
      · refine jr_inc (pc := 48) C dX1_sum_48 rfl (by decide) rfl ?_
        refine jr_goto (tgt := 14) (pc := 51) C dX1_sum_51 (by decide) ?_
        first
          | exact ih (g + 1) (by omega)
          | (rw [show jp_sum (fun f => (jg_V G p f).getD 0) g = jp_sum (fun f => (jg_V G p f).getD 0) (g + 1) from by show _ = jp_sum (fun f => (jg_V G p f).getD 0) g + (jg_V G p g).getD 0; rw [jp_none0 (hV.1.symm.trans c_31), nI_0, Int32.add_zero]]; exact ih (g + 1) (by omega))
      · refine jr_iload_n (pc := 34) C dX1_sum_34 rfl ?_
        refine jr_aload_n (pc := 35) C dX1_sum_35 rfl ?_
        refine jm_g_ct (pc := 36) C dX1_sum_36 ?_
        refine jr_bipush (pc := 39) (v := nI 16) C dX1_sum_39 (by decide) ?_
        refine jr_iload_n (pc := 41) C dX1_sum_41 rfl ?_
        refine jr_imulN (pc := 42) C dX1_sum_42 ?_
        refine jr_iload_n (pc := 43) C dX1_sum_43 rfl ?_
        refine jr_iaddN (pc := 44) C dX1_sum_44 ?_
        refine jm_l_ct (pc := 45) C (by omega) dX1_sum_45 ?_
        refine jr_top hV.2 ?_
        refine jr_iadd (pc := 46) C dX1_sum_46 ?_
        refine jr_istore_n (pc := 47) C dX1_sum_47 (by decide) rfl ?_
        refine jr_inc (pc := 48) C dX1_sum_48 rfl (by decide) rfl ?_
        refine jr_goto (tgt := 14) (pc := 51) C dX1_sum_51 (by decide) ?_
        first
          | exact ih (g + 1) (by omega)
          | (rw [show jp_sum (fun f => (jg_V G p f).getD 0) g = jp_sum (fun f => (jg_V G p f).getD 0) (g + 1) from by show _ = jp_sum (fun f => (jg_V G p f).getD 0) g + (jg_V G p g).getD 0; rw [jp_none0 (hV.1.symm.trans c_31), nI_0, Int32.add_zero]]; exact ih (g + 1) (by omega))
theorem mM_sum (hr : mr_R G lt li he ct dy pn) (a : Int32) : jw_Mi yX1_sum cX1_sum 4 (some .int) 1 D (tM cA) [.ref h, .int a] (wM h ad cA (jg_td G) lt li (jg_n G) he ct dy pn kp) (fun r w' => r = (sp_sum a G).1 ∧ mw_R h ad cA (sp_sum a G).2 w') := by
  have hn := mr_n hr
  cases hq : jp_ix a (jg_n G) with
  | none =>
    rw [show sp_sum a G = (0, G) from by simp only [sp_sum, hq]]
    refine jw_Mi.of (own := RX1) (by decide) rfl (Nat.le_of_ble_eq_true rfl) (fun _ _ _ => rfl) ?_
    intro E hE C hret
    subst hE
    show jw_J E 4 _ 0 [(0, .ref h), (1, .int a)] []
    refine jr_aload_n (pc := 0) C dX1_sum_0 rfl ?_
    refine jr_iload_n (pc := 1) C dX1_sum_1 rfl ?_
    refine jr_calli (pc := 2) C gw_X1_43 ok_X1_badPoint (mM_badPoint _ (by omega)) rfl (by decide) (by decide) rfl rfl dX1_sum_2 rfl (Nat.le_of_ble_eq_true rfl) ?_
    rintro _ _ ⟨rfl, rfl⟩
    refine jr_if_eqB (tgt := 10) (pc := 5) C dX1_sum_5 (by decide) (fun c_5 => ?_) (fun c_5 => ?_)
    · simp [hq] at c_5
    · refine jr_iconst (pc := 8) (v := nI 0) C dX1_sum_8 (by decide) ?_
      exact hret _ _ _ _ dX1_sum_9 ⟨rfl, mw_in hr⟩
  | some p =>
    obtain ⟨hp, rfl⟩ := jp_ix_some hq
    rw [show sp_sum (nI p) G = (jp_sum (fun f => (jg_V G p f).getD 0) 16, G) from by simp only [sp_sum, hq]]
    refine jw_Mi.of (own := RX1) (by decide) rfl (Nat.le_of_ble_eq_true rfl) (fun _ _ _ => rfl) ?_
    intro E hE C hret
    subst hE
    show jw_J E 4 _ 0 [(0, .ref h), (1, .int (nI p))] []
    refine jr_aload_n (pc := 0) C dX1_sum_0 rfl ?_
    refine jr_iload_n (pc := 1) C dX1_sum_1 rfl ?_
    refine jr_calli (pc := 2) C gw_X1_43 ok_X1_badPoint (mM_badPoint _ (by omega)) rfl (by decide) (by decide) rfl rfl dX1_sum_2 rfl (Nat.le_of_ble_eq_true rfl) ?_
    rintro _ _ ⟨rfl, rfl⟩
    refine jr_if_eqB (tgt := 10) (pc := 5) C dX1_sum_5 (by decide) (fun c_5 => ?_) (fun c_5 => ?_)
    · refine jr_iconst (pc := 10) (v := nI 0) C dX1_sum_10 (by decide) ?_
      refine jr_istore_n (pc := 11) C dX1_sum_11 (by decide) rfl ?_
      refine jr_iconst (pc := 12) (v := nI 0) C dX1_sum_12 (by decide) ?_
      refine jr_istore_n (pc := 13) C dX1_sum_13 (by decide) rfl ?_
      exact mM_sum_loop C hr hp hret 16 0 (by omega)
    · simp [hq] at c_5
end
end
section
/-! the reference: take, takeOut, forget -/
set_option maxRecDepth 100000
section
variable {D : va_G} {E : je_E} {h : Nat} {ad : Nat → Nat} {cA : Nat → ClassId} {td n : Nat} {lt : Nat → Bool} {li : Nat → Int32} {he : Nat → Bool} {ct : Nat → Int32} {dy : Nat → Nat} {pn kp : Nat → Bool} {G : jg_G}
theorem mr_take (hr : mr_R G lt li he ct dy pn) (hn : jg_n G < 14) {he' : Nat → Bool} {ct' : Nat → Int32} (h1 : ∀ f, f < 16 → he' (16 * jg_n G + f) = lt f ∧ ct' (16 * jg_n G + f) = li f) (h2 : ∀ i, i < 16 * jg_n G → he' i = he i ∧ ct' i = ct i) : mr_R (jg_lv G, jg_n G + 1, va_up (jg_V G) (jg_n G) (jg_lv G), va_up (jg_dv G) (jg_n G) (jg_td G), va_up (jg_pv G) (jg_n G) false, jg_td G) lt li he' ct' (va_up dy (jg_n G) (jg_td G)) (va_up pn (jg_n G) false) := by
  obtain ⟨a1, a2, a3, a4, a5, a6⟩ := hr
  have hlt : ∀ p, p < jg_n G + 1 → ¬ p = jg_n G → p < jg_n G := fun p h1 h2 => by omega
  refine ⟨by show jg_n G + 1 ≤ 14; omega, a2, fun p hp => ?_, fun p q hpq hq => ?_, a5, fun p hp f hf => ?_⟩
  · show va_up dy (jg_n G) (jg_td G) p = va_up (jg_dv G) (jg_n G) (jg_td G) p ∧ va_up pn (jg_n G) false p = va_up (jg_pv G) (jg_n G) false p ∧ va_up (jg_dv G) (jg_n G) (jg_td G) p ≤ jg_td G
    by_cases e : p = jg_n G
    · rw [e, jp_us, jp_us, jp_us, jp_us]; exact ⟨rfl, rfl, Nat.le_refl _⟩
    · rw [jp_un e, jp_un e, jp_un e, jp_un e]; exact a3 p (hlt p hp e)
  · show va_up (jg_dv G) (jg_n G) (jg_td G) p ≤ va_up (jg_dv G) (jg_n G) (jg_td G) q
    by_cases e2 : q = jg_n G
    · rw [e2, jp_us]
      by_cases e1 : p = jg_n G
      · rw [e1, jp_us]; exact Nat.le_refl _
      · rw [jp_un e1]; exact (a3 p (by omega)).2.2
    · have hq' := hlt q hq e2
      rw [jp_un e2, jp_un (by omega)]
      exact a4 p q hpq hq'
  · show _ = (va_up (jg_V G) (jg_n G) (jg_lv G) p f).isSome ∧ _ = (va_up (jg_V G) (jg_n G) (jg_lv G) p f).getD 0
    by_cases e : p = jg_n G
    · rw [e, jp_us, (h1 f hf).1, (h1 f hf).2]; exact a5 f hf
    · have hp' := hlt p hp e
      rw [jp_un e, (h2 _ (by omega)).1, (h2 _ (by omega)).2]
      exact a6 p hp' f hf
theorem mM_take_loop (C : jw_C E cX1_take 4 RX1 (tM cA) 0) (hn : n < 14) {a : Int32} (he0 : Nat → Bool) (ct0 : Nat → Int32) (kk : ∀ (he : Nat → Bool) (ct : Nat → Int32), (∀ f, f < 16 → he (16 * n + f) = lt f ∧ ct (16 * n + f) = li f) → (∀ i, i < 16 * n → he i = he0 i ∧ ct i = ct0 i) → jw_J E 4 (wM h ad cA td lt li n he ct dy pn kp) 73 [(0, .ref h), (1, .int a), (2, .int (nI n)), (3, .int (nI 16))] []) : ∀ (k f : Nat) (he : Nat → Bool) (ct : Nat → Int32), f + k = 16 → (∀ g, g < f → he (16 * n + g) = lt g ∧ ct (16 * n + g) = li g) → (∀ i, i < 16 * n → he i = he0 i ∧ ct i = ct0 i) → jw_J E 4 (wM h ad cA td lt li n he ct dy pn kp) 27 [(0, .ref h), (1, .int a), (2, .int (nI n)), (3, .int (nI f))] [] := by
  intro k
  induction k with
  | zero =>
    intro f he ct hf h1 h2
    have e16 : f = 16 := by omega
    subst e16
    refine jr_iload_n (pc := 27) C dX1_take_27 rfl ?_
    refine jr_bipush (pc := 28) (v := nI 16) C dX1_take_28 (by decide) ?_
    refine jr_icmp_geN (tgt := 73) (pc := 30) C dX1_take_30 (by decide) (by omega) (by omega) (fun c_30 => ?_) (fun c_30 => ?_)
    · exact kk he ct h1 h2
    · exfalso; omega
  | succ k ih =>
    intro f he ct hf h1 h2
    refine jr_iload_n (pc := 27) C dX1_take_27 rfl ?_
    refine jr_bipush (pc := 28) (v := nI 16) C dX1_take_28 (by decide) ?_
    refine jr_icmp_geN (tgt := 73) (pc := 30) C dX1_take_30 (by decide) (by omega) (by omega) (fun c_30 => ?_) (fun c_30 => ?_)
    · exfalso; omega
    · refine jr_aload_n (pc := 33) C dX1_take_33 rfl ?_
      refine jm_g_he (pc := 34) C dX1_take_34 ?_
      refine jr_bipush (pc := 37) (v := nI 16) C dX1_take_37 (by decide) ?_
      refine jr_iload_n (pc := 39) C dX1_take_39 rfl ?_
      refine jr_imulN (pc := 40) C dX1_take_40 ?_
      refine jr_iload_n (pc := 41) C dX1_take_41 rfl ?_
      refine jr_iaddN (pc := 42) C dX1_take_42 ?_
      refine jr_aload_n (pc := 43) C dX1_take_43 rfl ?_
      refine jm_g_lt (pc := 44) C dX1_take_44 ?_
      refine jr_iload_n (pc := 47) C dX1_take_47 rfl ?_
      refine jm_l_lt (pc := 48) C (by omega) dX1_take_48 ?_
      refine jm_s_he (pc := 49) C (by omega) dX1_take_49 ?_
      refine jr_aload_n (pc := 50) C dX1_take_50 rfl ?_
      refine jm_g_ct (pc := 51) C dX1_take_51 ?_
      refine jr_bipush (pc := 54) (v := nI 16) C dX1_take_54 (by decide) ?_
      refine jr_iload_n (pc := 56) C dX1_take_56 rfl ?_
      refine jr_imulN (pc := 57) C dX1_take_57 ?_
      refine jr_iload_n (pc := 58) C dX1_take_58 rfl ?_
      refine jr_iaddN (pc := 59) C dX1_take_59 ?_
      refine jr_aload_n (pc := 60) C dX1_take_60 rfl ?_
      refine jm_g_li (pc := 61) C dX1_take_61 ?_
      refine jr_iload_n (pc := 64) C dX1_take_64 rfl ?_
      refine jm_l_li (pc := 65) C (by omega) dX1_take_65 ?_
      refine jm_s_ct (pc := 66) C (by omega) dX1_take_66 ?_
      refine jr_inc (pc := 67) C dX1_take_67 rfl (by decide) rfl ?_
      refine jr_goto (tgt := 27) (pc := 70) C dX1_take_70 (by decide) ?_
      refine ih (f + 1) _ _ (by omega) (fun g hg => ?_) (fun i hi => ?_)
      · by_cases e : g = f
        · rw [e, jp_us, jp_us]; exact ⟨rfl, rfl⟩
        · rw [jp_un (by omega), jp_un (by omega)]; exact h1 g (by omega)
      · rw [jp_un (by omega), jp_un (by omega)]; exact h2 i hi
theorem mM_take (hr : mr_R G lt li he ct dy pn) (a : Int32) : jw_Mi yX1_take cX1_take 4 (some .int) 0 D (tM cA) [.ref h, .int a] (wM h ad cA (jg_td G) lt li (jg_n G) he ct dy pn kp) (fun r w' => r = (sp_take a G).1 ∧ mw_R h ad cA (sp_take a G).2 w') := by
  have hn := mr_n hr
  cases hq : jp_ix a 3 with
  | none =>
    rw [show sp_take a G = (-1, G) from by simp only [sp_take, hq]]
    refine jw_Mi.of (own := RX1) (by decide) rfl (Nat.le_of_ble_eq_true rfl) (fun _ _ _ => rfl) ?_
    intro E hE C hret
    subst hE
    show jw_J E 4 _ 0 [(0, .ref h), (1, .int a)] []
    refine jr_iload_n (pc := 0) C dX1_take_0 rfl ?_
    refine jr_if_lt (tgt := 9) (pc := 1) C dX1_take_1 (by decide) (fun c_1 => ?_) (fun c_1 => ?_)
    · refine jr_iconst (pc := 9) (v := (-1)) C dX1_take_9 (by decide) ?_
      exact hret _ _ _ _ dX1_take_10 ⟨rfl, mw_in hr⟩
    · refine jr_iload_n (pc := 4) C dX1_take_4 rfl ?_
      refine jr_iconst (pc := 5) (v := nI 2) C dX1_take_5 (by decide) ?_
      refine jr_icmp_le (tgt := 11) (pc := 6) C dX1_take_6 (by decide) (fun c_6 => ?_) (fun c_6 => ?_)
      · exact absurd c_6 (fun q => jp_ix_abs (m := 2) rfl (by omega) hq c_1 q)
      · refine jr_iconst (pc := 9) (v := (-1)) C dX1_take_9 (by decide) ?_
        exact hret _ _ _ _ dX1_take_10 ⟨rfl, mw_in hr⟩
  | some k =>
    obtain ⟨hk, rfl⟩ := jp_ix_some hq
    by_cases h14 : jg_n G = 14
    · rw [show sp_take (nI k) G = (-2, G) from by simp only [sp_take, hq, if_pos h14]]
      refine jw_Mi.of (own := RX1) (by decide) rfl (Nat.le_of_ble_eq_true rfl) (fun _ _ _ => rfl) ?_
      intro E hE C hret
      subst hE
      show jw_J E 4 _ 0 [(0, .ref h), (1, .int (nI k))] []
      refine jr_iload_n (pc := 0) C dX1_take_0 rfl ?_
      refine jr_if_ltN (tgt := 9) (pc := 1) C dX1_take_1 (by decide) (by omega) ?_
      refine jr_iload_n (pc := 4) C dX1_take_4 rfl ?_
      refine jr_iconst (pc := 5) (v := nI 2) C dX1_take_5 (by decide) ?_
      refine jr_icmp_leN (tgt := 11) (pc := 6) C dX1_take_6 (by decide) (by omega) (by omega) (fun c_6 => ?_) (fun c_6 => ?_)
      · refine jr_aload_n (pc := 11) C dX1_take_11 rfl ?_
        refine jm_g_n (pc := 12) C dX1_take_12 ?_
        refine jr_istore_n (pc := 15) C dX1_take_15 (by decide) rfl ?_
        refine jr_iload_n (pc := 16) C dX1_take_16 rfl ?_
        refine jr_bipush (pc := 17) (v := nI 14) C dX1_take_17 (by decide) ?_
        refine jr_icmp_ltN (tgt := 25) (pc := 19) C dX1_take_19 (by decide) (by omega) (by omega) (fun c_19 => ?_) (fun c_19 => ?_)
        · exfalso; omega
        · refine jr_bipush (pc := 22) (v := (-2)) C dX1_take_22 (by decide) ?_
          exact hret _ _ _ _ dX1_take_24 ⟨rfl, mw_in hr⟩
      · exfalso; omega
    · rw [show sp_take (nI k) G = (nI (jg_n G), (jg_lv G, jg_n G + 1, va_up (jg_V G) (jg_n G) (jg_lv G), va_up (jg_dv G) (jg_n G) (jg_td G), va_up (jg_pv G) (jg_n G) false, jg_td G)) from by simp only [sp_take, hq, if_neg h14]]
      have hn14 : jg_n G < 14 := by omega
      refine jw_Mi.of (own := RX1) (by decide) rfl (Nat.le_of_ble_eq_true rfl) (fun _ _ _ => rfl) ?_
      intro E hE C hret
      subst hE
      show jw_J E 4 _ 0 [(0, .ref h), (1, .int (nI k))] []
      refine jr_iload_n (pc := 0) C dX1_take_0 rfl ?_
      refine jr_if_ltN (tgt := 9) (pc := 1) C dX1_take_1 (by decide) (by omega) ?_
      refine jr_iload_n (pc := 4) C dX1_take_4 rfl ?_
      refine jr_iconst (pc := 5) (v := nI 2) C dX1_take_5 (by decide) ?_
      refine jr_icmp_leN (tgt := 11) (pc := 6) C dX1_take_6 (by decide) (by omega) (by omega) (fun c_6 => ?_) (fun c_6 => ?_)
      · refine jr_aload_n (pc := 11) C dX1_take_11 rfl ?_
        refine jm_g_n (pc := 12) C dX1_take_12 ?_
        refine jr_istore_n (pc := 15) C dX1_take_15 (by decide) rfl ?_
        refine jr_iload_n (pc := 16) C dX1_take_16 rfl ?_
        refine jr_bipush (pc := 17) (v := nI 14) C dX1_take_17 (by decide) ?_
        refine jr_icmp_ltN (tgt := 25) (pc := 19) C dX1_take_19 (by decide) (by omega) (by omega) (fun c_19 => ?_) (fun c_19 => ?_)
        · refine jr_iconst (pc := 25) (v := nI 0) C dX1_take_25 (by decide) ?_
          refine jr_istore_n (pc := 26) C dX1_take_26 (by decide) rfl ?_
          refine mM_take_loop C hn14 he ct (fun he' ct' h1 h2 => ?_) 16 0 he ct (by omega) (fun g hg => absurd hg (Nat.not_lt_zero _)) (fun i hi => ⟨rfl, rfl⟩)
          refine jr_aload_n (pc := 73) C dX1_take_73 rfl ?_
          refine jm_g_dy (pc := 74) C dX1_take_74 ?_
          refine jr_iload_n (pc := 77) C dX1_take_77 rfl ?_
          refine jr_aload_n (pc := 78) C dX1_take_78 rfl ?_
          refine jm_g_td (pc := 79) C dX1_take_79 ?_
          refine jm_s_dy (pc := 82) C (by omega) dX1_take_82 ?_
          refine jr_aload_n (pc := 83) C dX1_take_83 rfl ?_
          refine jm_g_pn (pc := 84) C dX1_take_84 ?_
          refine jr_iload_n (pc := 87) C dX1_take_87 rfl ?_
          refine jr_iconst (pc := 88) (v := nI 0) C dX1_take_88 (by decide) ?_
          refine jr_top (show nI 0 = jp_b false from by decide) ?_
          refine jm_s_pn (pc := 89) C (by omega) dX1_take_89 ?_
          refine jr_aload_n (pc := 90) C dX1_take_90 rfl ?_
          refine jr_iload_n (pc := 91) C dX1_take_91 rfl ?_
          refine jr_iconst (pc := 92) (v := nI 1) C dX1_take_92 (by decide) ?_
          refine jr_iaddN (pc := 93) C dX1_take_93 ?_
          refine jm_p_n (pc := 94) C dX1_take_94 ?_
          refine jr_iload_n (pc := 97) C dX1_take_97 rfl ?_
          exact hret _ _ _ _ dX1_take_98 ⟨rfl, kp, _, _, _, _, _, _, rfl, mr_take hr hn14 h1 h2⟩
        · exfalso; omega
      · exfalso; omega
/-- the places from p on, below q, have what stood behind them -/
def mt_1 {α : Type} (p q : Nat) (f f0 : Nat → α) : Prop := ∀ i, f i = if p ≤ i ∧ i < q then f0 (i + 1) else f0 i
def mt_2 {α : Type} (p q : Nat) (f f0 : Nat → α) : Prop := ∀ i g, g < 16 → f (16 * i + g) = if p ≤ i ∧ i < q then f0 (16 * (i + 1) + g) else f0 (16 * i + g)
theorem mt_10 {α : Type} {p : Nat} {f : Nat → α} : mt_1 p p f f := fun i => by rw [if_neg (by omega)]
theorem mt_20 {α : Type} {p : Nat} {f : Nat → α} : mt_2 p p f f := fun i g hg => by rw [if_neg (by omega)]
theorem mt_1s {α : Type} {p q : Nat} {f f0 : Nat → α} (hpq : p ≤ q) (h : mt_1 p q f f0) : mt_1 p (q + 1) (va_up f q (f (q + 1))) f0 := by
  intro i
  by_cases e : i = q
  · rw [e, jp_us, if_pos (by omega), h (q + 1), if_neg (by omega)]
  · rw [jp_un e, h i]
    by_cases c : p ≤ i ∧ i < q
    · rw [if_pos c, if_pos (by omega)]
    · rw [if_neg c, if_neg (by omega)]
theorem mt_2s {α : Type} {p q : Nat} {f f0 f1 : Nat → α} (hpq : p ≤ q) (h : mt_2 p q f f0) (h1 : ∀ g, g < 16 → f1 (16 * q + g) = f (16 * (q + 1) + g)) (h2 : ∀ i, (∀ g, g < 16 → i ≠ 16 * q + g) → f1 i = f i) : mt_2 p (q + 1) f1 f0 := by
  intro i g hg
  by_cases e : i = q
  · rw [e, h1 g hg, if_pos (by omega), h (q + 1) g hg, if_neg (by omega)]
  · rw [h2 _ (fun g' hg' => by omega), h i g hg]
    by_cases c : p ≤ i ∧ i < q
    · rw [if_pos c, if_pos (by omega)]
    · rw [if_neg c, if_neg (by omega)]
theorem mt_1e {α : Type} {p q i : Nat} {f f0 : Nat → α} (h : mt_1 p q f f0) (hi : i < q) : f i = f0 (xr_ix p i) := by
  rw [h i]
  unfold xr_ix
  by_cases c : i < p
  · rw [if_pos c, if_neg (by omega)]
  · rw [if_neg c, if_pos (by omega)]
theorem mt_2e {α : Type} {p q i g : Nat} {f f0 : Nat → α} (h : mt_2 p q f f0) (hi : i < q) (hg : g < 16) : f (16 * i + g) = f0 (16 * xr_ix p i + g) := by
  rw [h i g hg]
  unfold xr_ix
  by_cases c : i < p
  · rw [if_pos c, if_neg (by omega)]
  · rw [if_neg c, if_pos (by omega)]
theorem mr_drop (hr : mr_R G lt li he ct dy pn) {p : Nat} (hp : p < jg_n G) {he' : Nat → Bool} {ct' : Nat → Int32} {dy' : Nat → Nat} {pn' : Nat → Bool} (h1 : mt_2 p (jg_n G - 1) he' he) (h2 : mt_2 p (jg_n G - 1) ct' ct) (h3 : mt_1 p (jg_n G - 1) dy' dy) (h4 : mt_1 p (jg_n G - 1) pn' pn) : mr_R (jg_rm G p) lt li he' ct' dy' pn' := by
  obtain ⟨a1, a2, a3, a4, a5, a6⟩ := hr
  have hil : ∀ q, q < jg_n G - 1 → xr_ix p q < jg_n G := fun q hq => xr_ix_lt hq
  have hV : ∀ q f, jg_V (jg_rm G p) q f = jg_V G (xr_ix p q) f := fun q f => by show jp_sh (jg_V G) p q f = _; rw [xr_ix_sh]
  have hdv : ∀ q, jg_dv (jg_rm G p) q = jg_dv G (xr_ix p q) := fun q => by show jp_sh (jg_dv G) p q = _; rw [xr_ix_sh]
  have hpv : ∀ q, jg_pv (jg_rm G p) q = jg_pv G (xr_ix p q) := fun q => by show jp_sh (jg_pv G) p q = _; rw [xr_ix_sh]
  refine ⟨by show jg_n G - 1 ≤ 14; omega, a2, fun q hq => ?_, fun q r hqr hr => ?_, a5, fun q hq f hf => ?_⟩
  · have hq : q < jg_n G - 1 := hq
    rw [mt_1e h3 hq, mt_1e h4 hq, hdv, hpv]
    exact a3 _ (hil q hq)
  · have hr : r < jg_n G - 1 := hr
    rw [hdv, hdv]
    exact a4 _ _ (xr_ix_le hqr) (hil r hr)
  · have hq : q < jg_n G - 1 := hq
    rw [mt_2e h1 hq hf, mt_2e h2 hq hf, hV]
    exact a6 _ (hil q hq) f hf
theorem mM_takeOut_in (C : jw_C E cX1_takeOut 4 RX1 (tM cA) 0) {p q : Nat} (hq : q < 13) (he0 : Nat → Bool) (ct0 : Nat → Int32) (kk : ∀ (he : Nat → Bool) (ct : Nat → Int32), (∀ g, g < 16 → he (16 * q + g) = he0 (16 * (q + 1) + g) ∧ ct (16 * q + g) = ct0 (16 * (q + 1) + g)) → (∀ i, (∀ g, g < 16 → i ≠ 16 * q + g) → he i = he0 i ∧ ct i = ct0 i) → jw_J E 4 (wM h ad cA td lt li n he ct dy pn kp) 80 [(0, .ref h), (1, .int (nI p)), (2, .int (nI q)), (3, .int (nI 16))] []) : ∀ (k f : Nat) (he : Nat → Bool) (ct : Nat → Int32), f + k = 16 → (∀ g, g < f → he (16 * q + g) = he0 (16 * (q + 1) + g) ∧ ct (16 * q + g) = ct0 (16 * (q + 1) + g)) → (∀ i, (∀ g, g < f → i ≠ 16 * q + g) → he i = he0 i ∧ ct i = ct0 i) → jw_J E 4 (wM h ad cA td lt li n he ct dy pn kp) 20 [(0, .ref h), (1, .int (nI p)), (2, .int (nI q)), (3, .int (nI f))] [] := by
  intro k
  induction k with
  | zero =>
    intro f he ct hf h1 h2
    have e16 : f = 16 := by omega
    subst e16
    refine jr_iload_n (pc := 20) C dX1_takeOut_20 rfl ?_
    refine jr_bipush (pc := 21) (v := nI 16) C dX1_takeOut_21 (by decide) ?_
    refine jr_icmp_geN (tgt := 80) (pc := 23) C dX1_takeOut_23 (by decide) (by omega) (by omega) (fun c_23 => ?_) (fun c_23 => ?_)
    · exact kk he ct h1 h2
    · exfalso; omega
  | succ k ih =>
    intro f he ct hf h1 h2
    have hx := h2 (16 * (q + 1) + f) (fun g hg => by omega)
    refine jr_iload_n (pc := 20) C dX1_takeOut_20 rfl ?_
    refine jr_bipush (pc := 21) (v := nI 16) C dX1_takeOut_21 (by decide) ?_
    refine jr_icmp_geN (tgt := 80) (pc := 23) C dX1_takeOut_23 (by decide) (by omega) (by omega) (fun c_23 => ?_) (fun c_23 => ?_)
    · exfalso; omega
    · refine jr_aload_n (pc := 26) C dX1_takeOut_26 rfl ?_
      refine jm_g_he (pc := 27) C dX1_takeOut_27 ?_
      refine jr_bipush (pc := 30) (v := nI 16) C dX1_takeOut_30 (by decide) ?_
      refine jr_iload_n (pc := 32) C dX1_takeOut_32 rfl ?_
      refine jr_imulN (pc := 33) C dX1_takeOut_33 ?_
      refine jr_iload_n (pc := 34) C dX1_takeOut_34 rfl ?_
      refine jr_iaddN (pc := 35) C dX1_takeOut_35 ?_
      refine jr_aload_n (pc := 36) C dX1_takeOut_36 rfl ?_
      refine jm_g_he (pc := 37) C dX1_takeOut_37 ?_
      refine jr_bipush (pc := 40) (v := nI 16) C dX1_takeOut_40 (by decide) ?_
      refine jr_iload_n (pc := 42) C dX1_takeOut_42 rfl ?_
      refine jr_iconst (pc := 43) (v := nI 1) C dX1_takeOut_43 (by decide) ?_
      refine jr_iaddN (pc := 44) C dX1_takeOut_44 ?_
      refine jr_imulN (pc := 45) C dX1_takeOut_45 ?_
      refine jr_iload_n (pc := 46) C dX1_takeOut_46 rfl ?_
      refine jr_iaddN (pc := 47) C dX1_takeOut_47 ?_
      refine jm_l_he (pc := 48) C (by omega) dX1_takeOut_48 ?_
      refine jm_s_he (pc := 49) C (by omega) dX1_takeOut_49 ?_
      refine jr_aload_n (pc := 50) C dX1_takeOut_50 rfl ?_
      refine jm_g_ct (pc := 51) C dX1_takeOut_51 ?_
      refine jr_bipush (pc := 54) (v := nI 16) C dX1_takeOut_54 (by decide) ?_
      refine jr_iload_n (pc := 56) C dX1_takeOut_56 rfl ?_
      refine jr_imulN (pc := 57) C dX1_takeOut_57 ?_
      refine jr_iload_n (pc := 58) C dX1_takeOut_58 rfl ?_
      refine jr_iaddN (pc := 59) C dX1_takeOut_59 ?_
      refine jr_aload_n (pc := 60) C dX1_takeOut_60 rfl ?_
      refine jm_g_ct (pc := 61) C dX1_takeOut_61 ?_
      refine jr_bipush (pc := 64) (v := nI 16) C dX1_takeOut_64 (by decide) ?_
      refine jr_iload_n (pc := 66) C dX1_takeOut_66 rfl ?_
      refine jr_iconst (pc := 67) (v := nI 1) C dX1_takeOut_67 (by decide) ?_
      refine jr_iaddN (pc := 68) C dX1_takeOut_68 ?_
      refine jr_imulN (pc := 69) C dX1_takeOut_69 ?_
      refine jr_iload_n (pc := 70) C dX1_takeOut_70 rfl ?_
      refine jr_iaddN (pc := 71) C dX1_takeOut_71 ?_
      refine jm_l_ct (pc := 72) C (by omega) dX1_takeOut_72 ?_
      refine jm_s_ct (pc := 73) C (by omega) dX1_takeOut_73 ?_
      refine jr_inc (pc := 74) C dX1_takeOut_74 rfl (by decide) rfl ?_
      refine jr_goto (tgt := 20) (pc := 77) C dX1_takeOut_77 (by decide) ?_
      refine ih (f + 1) _ _ (by omega) (fun g hg => ?_) (fun i hi => ?_)
      · by_cases e : g = f
        · rw [e, jp_us, jp_us]; exact hx
        · rw [jp_un (by omega), jp_un (by omega)]; exact h1 g (by omega)
      · rw [jp_un (hi f (Nat.lt_succ_self _)), jp_un (hi f (Nat.lt_succ_self _))]
        exact h2 i (fun g hg => hi g (by omega))
theorem mM_takeOut_loop (C : jw_C E cX1_takeOut 4 RX1 (tM cA) 0) {p : Nat} (hp : p < n) (hn : n ≤ 14) (he0 : Nat → Bool) (ct0 : Nat → Int32) (dy0 : Nat → Nat) (pn0 kp0 : Nat → Bool) (kk : ∀ (he : Nat → Bool) (ct : Nat → Int32) (dy : Nat → Nat) (pn kp : Nat → Bool), mt_2 p (n - 1) he he0 → mt_2 p (n - 1) ct ct0 → mt_1 p (n - 1) dy dy0 → mt_1 p (n - 1) pn pn0 → mt_1 p (n - 1) kp kp0 → jw_J E 4 (wM h ad cA td lt li n he ct dy pn kp) 128 [(0, .ref h), (1, .int (nI p)), (2, .int (nI (n - 1)))] []) : ∀ (k q : Nat) (he : Nat → Bool) (ct : Nat → Int32) (dy : Nat → Nat) (pn kp : Nat → Bool), q + k = n - 1 → p ≤ q → mt_2 p q he he0 → mt_2 p q ct ct0 → mt_1 p q dy dy0 → mt_1 p q pn pn0 → mt_1 p q kp kp0 → jw_J E 4 (wM h ad cA td lt li n he ct dy pn kp) 2 [(0, .ref h), (1, .int (nI p)), (2, .int (nI q))] [] := by
  intro k
  induction k with
  | zero =>
    intro q he ct dy pn kp hq hpq g1 g2 g3 g4 g5
    have e : q = n - 1 := hq
    subst e
    refine jr_iload_n (pc := 2) C dX1_takeOut_2 rfl ?_
    refine jr_aload_n (pc := 3) C dX1_takeOut_3 rfl ?_
    refine jm_g_n (pc := 4) C dX1_takeOut_4 ?_
    refine jr_iconst (pc := 7) (v := nI 1) C dX1_takeOut_7 (by decide) ?_
    refine jr_isubN (pc := 8) C dX1_takeOut_8 (by omega) ?_
    refine jr_icmp_geN (tgt := 128) (pc := 9) C dX1_takeOut_9 (by decide) (by omega) (by omega) (fun c_9 => ?_) (fun c_9 => ?_)
    · exact kk he ct dy pn kp g1 g2 g3 g4 g5
    · exfalso; omega
  | succ k ih =>
    intro q he ct dy pn kp hq hpq g1 g2 g3 g4 g5
    refine jr_iload_n (pc := 2) C dX1_takeOut_2 rfl ?_
    refine jr_aload_n (pc := 3) C dX1_takeOut_3 rfl ?_
    refine jm_g_n (pc := 4) C dX1_takeOut_4 ?_
    refine jr_iconst (pc := 7) (v := nI 1) C dX1_takeOut_7 (by decide) ?_
    refine jr_isubN (pc := 8) C dX1_takeOut_8 (by omega) ?_
    refine jr_icmp_geN (tgt := 128) (pc := 9) C dX1_takeOut_9 (by decide) (by omega) (by omega) (fun c_9 => ?_) (fun c_9 => ?_)
    · exfalso; omega
    · refine jr_iload_n (pc := 12) C dX1_takeOut_12 rfl ?_
      refine jr_bipush (pc := 13) (v := nI 13) C dX1_takeOut_13 (by decide) ?_
      refine jr_icmp_geN (tgt := 128) (pc := 15) C dX1_takeOut_15 (by decide) (by omega) (by omega) (fun c_15 => ?_) (fun c_15 => ?_)
      · exfalso; omega
      · refine jr_iconst (pc := 18) (v := nI 0) C dX1_takeOut_18 (by decide) ?_
        refine jr_istore_n (pc := 19) C dX1_takeOut_19 (by decide) rfl ?_
        refine mM_takeOut_in C (by omega) he ct (fun he' ct' h1 h2 => ?_) 16 0 he ct (by omega) (fun g hg => absurd hg (Nat.not_lt_zero _)) (fun i hi => ⟨rfl, rfl⟩)
        refine jr_aload_n (pc := 80) C dX1_takeOut_80 rfl ?_
        refine jm_g_dy (pc := 81) C dX1_takeOut_81 ?_
        refine jr_iload_n (pc := 84) C dX1_takeOut_84 rfl ?_
        refine jr_aload_n (pc := 85) C dX1_takeOut_85 rfl ?_
        refine jm_g_dy (pc := 86) C dX1_takeOut_86 ?_
        refine jr_iload_n (pc := 89) C dX1_takeOut_89 rfl ?_
        refine jr_iconst (pc := 90) (v := nI 1) C dX1_takeOut_90 (by decide) ?_
        refine jr_iaddN (pc := 91) C dX1_takeOut_91 ?_
        refine jm_l_dy (pc := 92) C (by omega) dX1_takeOut_92 ?_
        refine jm_s_dy (pc := 93) C (by omega) dX1_takeOut_93 ?_
        refine jr_aload_n (pc := 94) C dX1_takeOut_94 rfl ?_
        refine jm_g_pn (pc := 95) C dX1_takeOut_95 ?_
        refine jr_iload_n (pc := 98) C dX1_takeOut_98 rfl ?_
        refine jr_aload_n (pc := 99) C dX1_takeOut_99 rfl ?_
        refine jm_g_pn (pc := 100) C dX1_takeOut_100 ?_
        refine jr_iload_n (pc := 103) C dX1_takeOut_103 rfl ?_
        refine jr_iconst (pc := 104) (v := nI 1) C dX1_takeOut_104 (by decide) ?_
        refine jr_iaddN (pc := 105) C dX1_takeOut_105 ?_
        refine jm_l_pn (pc := 106) C (by omega) dX1_takeOut_106 ?_
        refine jm_s_pn (pc := 107) C (by omega) dX1_takeOut_107 ?_
        refine jr_aload_n (pc := 108) C dX1_takeOut_108 rfl ?_
        refine jm_g_kp (pc := 109) C dX1_takeOut_109 ?_
        refine jr_iload_n (pc := 112) C dX1_takeOut_112 rfl ?_
        refine jr_aload_n (pc := 113) C dX1_takeOut_113 rfl ?_
        refine jm_g_kp (pc := 114) C dX1_takeOut_114 ?_
        refine jr_iload_n (pc := 117) C dX1_takeOut_117 rfl ?_
        refine jr_iconst (pc := 118) (v := nI 1) C dX1_takeOut_118 (by decide) ?_
        refine jr_iaddN (pc := 119) C dX1_takeOut_119 ?_
        refine jm_l_kp (pc := 120) C (by omega) dX1_takeOut_120 ?_
        refine jm_s_kp (pc := 121) C (by omega) dX1_takeOut_121 ?_
        refine jr_inc (pc := 122) C dX1_takeOut_122 rfl (by decide) rfl ?_
        refine jr_goto (tgt := 2) (pc := 125) C dX1_takeOut_125 (by decide) ?_
        exact jr_sub (ih (q + 1) _ _ _ _ _ (by omega) (by omega) (mt_2s hpq g1 (fun g hg => (h1 g hg).1) (fun i hi => (h2 i hi).1)) (mt_2s hpq g2 (fun g hg => (h1 g hg).2) (fun i hi => (h2 i hi).2)) (mt_1s hpq g3) (mt_1s hpq g4) (mt_1s hpq g5)) rfl
/-- takeOut(p): point p goes; the marks below it stay -/
theorem mM_takeOut (hr : mr_R G lt li he ct dy pn) {p : Nat} (hp : p < jg_n G) : jw_Mv yX1_takeOut cX1_takeOut 4 0 D (tM cA) [.ref h, .int (nI p)] (wM h ad cA (jg_td G) lt li (jg_n G) he ct dy pn kp) (fun w' => ∃ kp', (∀ q, q < p → kp' q = kp q) ∧ mw_K h ad cA kp' (jg_rm G p) w') := by
  refine jw_Mv.of (own := RX1) (by decide) rfl (Nat.le_of_ble_eq_true rfl) ?_
  intro E hE C hret
  subst hE
  show jw_J E 4 _ 0 [(0, .ref h), (1, .int (nI p))] []
  have hn := mr_n hr
  refine jr_iload_n (pc := 0) C dX1_takeOut_0 rfl ?_
  refine jr_istore_n (pc := 1) C dX1_takeOut_1 (by decide) rfl ?_
  refine mM_takeOut_loop C hp hn he ct dy pn kp (fun he' ct' dy' pn' kp' g1 g2 g3 g4 g5 => ?_) (jg_n G - 1 - p) p he ct dy pn kp (by omega) (Nat.le_refl _) mt_20 mt_20 mt_10 mt_10 mt_10
  refine jr_aload_n (pc := 128) C dX1_takeOut_128 rfl ?_
  refine jr_dup (pc := 129) C dX1_takeOut_129 rfl ?_
  refine jm_g_n (pc := 130) C dX1_takeOut_130 ?_
  refine jr_iconst (pc := 133) (v := nI 1) C dX1_takeOut_133 (by decide) ?_
  refine jr_isubN (pc := 134) C dX1_takeOut_134 (by omega) ?_
  refine jm_p_n (pc := 135) C dX1_takeOut_135 ?_
  exact hret _ _ _ dX1_takeOut_138 ⟨kp', fun q hq => by rw [g5 q, if_neg (by omega)], _, _, _, _, _, _, rfl, mr_drop hr hp g1 g2 g3 g4⟩
theorem mM_forget (hr : mr_R G lt li he ct dy pn) (a : Int32) : jw_Mi yX1_forget cX1_forget 2 (some .int) 1 D (tM cA) [.ref h, .int a] (wM h ad cA (jg_td G) lt li (jg_n G) he ct dy pn kp) (fun r w' => r = (sp_forget a G).1 ∧ mw_R h ad cA (sp_forget a G).2 w') := by
  have hn := mr_n hr
  cases hq : jp_ix a (jg_n G) with
  | none =>
    rw [show sp_forget a G = (-1, G) from by simp only [sp_forget, hq]]
    refine jw_Mi.of (own := RX1) (by decide) rfl (Nat.le_of_ble_eq_true rfl) (fun _ _ _ => rfl) ?_
    intro E hE C hret
    subst hE
    show jw_J E 2 _ 0 [(0, .ref h), (1, .int a)] []
    refine jr_aload_n (pc := 0) C dX1_forget_0 rfl ?_
    refine jr_iload_n (pc := 1) C dX1_forget_1 rfl ?_
    refine jr_calli (pc := 2) C gw_X1_43 ok_X1_badPoint (mM_badPoint _ (by omega)) rfl (by decide) (by decide) rfl rfl dX1_forget_2 rfl (Nat.le_of_ble_eq_true rfl) ?_
    rintro _ _ ⟨rfl, rfl⟩
    refine jr_if_eqB (tgt := 10) (pc := 5) C dX1_forget_5 (by decide) (fun c_5 => ?_) (fun c_5 => ?_)
    · simp [hq] at c_5
    · refine jr_iconst (pc := 8) (v := (-1)) C dX1_forget_8 (by decide) ?_
      exact hret _ _ _ _ dX1_forget_9 ⟨rfl, mw_in hr⟩
  | some p =>
    obtain ⟨hp, rfl⟩ := jp_ix_some hq
    have hdp := mr_dp hr hp
    cases hpv : jg_pv G p with
    | true =>
      rw [show sp_forget (nI p) G = (-2, G) from by simp only [sp_forget, hq, hpv, if_true]]
      refine jw_Mi.of (own := RX1) (by decide) rfl (Nat.le_of_ble_eq_true rfl) (fun _ _ _ => rfl) ?_
      intro E hE C hret
      subst hE
      show jw_J E 2 _ 0 [(0, .ref h), (1, .int (nI p))] []
      refine jr_aload_n (pc := 0) C dX1_forget_0 rfl ?_
      refine jr_iload_n (pc := 1) C dX1_forget_1 rfl ?_
      refine jr_calli (pc := 2) C gw_X1_43 ok_X1_badPoint (mM_badPoint _ (by omega)) rfl (by decide) (by decide) rfl rfl dX1_forget_2 rfl (Nat.le_of_ble_eq_true rfl) ?_
      rintro _ _ ⟨rfl, rfl⟩
      refine jr_if_eqB (tgt := 10) (pc := 5) C dX1_forget_5 (by decide) (fun c_5 => ?_) (fun c_5 => ?_)
      · refine jr_aload_n (pc := 10) C dX1_forget_10 rfl ?_
        refine jm_g_pn (pc := 11) C dX1_forget_11 ?_
        refine jr_iload_n (pc := 14) C dX1_forget_14 rfl ?_
        refine jm_l_pn (pc := 15) C (by omega) dX1_forget_15 ?_
        refine jr_if_eqB (tgt := 22) (pc := 16) C dX1_forget_16 (by decide) (fun c_16 => ?_) (fun c_16 => ?_)
        · rw [hdp.2.1, hpv] at c_16; cases c_16
        · refine jr_bipush (pc := 19) (v := (-2)) C dX1_forget_19 (by decide) ?_
          exact hret _ _ _ _ dX1_forget_21 ⟨rfl, mw_in hr⟩
      · simp [hq] at c_5
    | false =>
      rw [show sp_forget (nI p) G = (nI (jg_n G - 1), jg_rm G p) from by simp only [sp_forget, hq, hpv]; rfl]
      refine jw_Mi.of (own := RX1) (by decide) rfl (Nat.le_of_ble_eq_true rfl) (fun _ _ _ => rfl) ?_
      intro E hE C hret
      subst hE
      show jw_J E 2 _ 0 [(0, .ref h), (1, .int (nI p))] []
      refine jr_aload_n (pc := 0) C dX1_forget_0 rfl ?_
      refine jr_iload_n (pc := 1) C dX1_forget_1 rfl ?_
      refine jr_calli (pc := 2) C gw_X1_43 ok_X1_badPoint (mM_badPoint _ (by omega)) rfl (by decide) (by decide) rfl rfl dX1_forget_2 rfl (Nat.le_of_ble_eq_true rfl) ?_
      rintro _ _ ⟨rfl, rfl⟩
      refine jr_if_eqB (tgt := 10) (pc := 5) C dX1_forget_5 (by decide) (fun c_5 => ?_) (fun c_5 => ?_)
      · refine jr_aload_n (pc := 10) C dX1_forget_10 rfl ?_
        refine jm_g_pn (pc := 11) C dX1_forget_11 ?_
        refine jr_iload_n (pc := 14) C dX1_forget_14 rfl ?_
        refine jm_l_pn (pc := 15) C (by omega) dX1_forget_15 ?_
        refine jr_if_eqB (tgt := 22) (pc := 16) C dX1_forget_16 (by decide) (fun c_16 => ?_) (fun c_16 => ?_)
        · refine jr_aload_n (pc := 22) C dX1_forget_22 rfl ?_
          refine jr_iload_n (pc := 23) C dX1_forget_23 rfl ?_
          refine jr_callv (pc := 24) C gw_X1_54 ok_X1_takeOut (mM_takeOut hr hp) rfl (by decide) (by decide) rfl rfl dX1_forget_24 rfl (Nat.le_of_ble_eq_true rfl) ?_
          rintro _ ⟨kp1, hkp1, lt1, li1, he1, ct1, dy1, pn1, rfl, hr1⟩
          refine jr_aload_n (pc := 27) C dX1_forget_27 rfl ?_
          refine jm_g_n (pc := 28) C dX1_forget_28 ?_
          exact hret _ _ _ _ dX1_forget_31 ⟨rfl, mw_in hr1⟩
        · rw [hdp.2.1, hpv] at c_16; cases c_16
      · simp [hq] at c_5
end
end
section
/-! the reference: head, keep, prune -/
set_option maxRecDepth 100000
theorem sp_hd_t {n : Nat} {dv : Nat → Nat} {l p : Nat} (hp : p < n) (h : ∀ i, p < i → i < n → ¬ dv i / l = dv p / l) : sp_hd n dv l p = true := by
  unfold sp_hd
  by_cases e : p + 1 = n
  · rw [decide_eq_true e, Bool.true_or]
  · rw [decide_eq_true (h (p + 1) (by omega) (by omega)), Bool.or_true]
theorem sp_hd_f {n : Nat} {dv : Nat → Nat} {l p q : Nat} (hm : ∀ p q, p ≤ q → q < n → dv p ≤ dv q) (hpq : p < q) (hq : q < n) (h : dv q / l = dv p / l) : sp_hd n dv l p = false := by
  unfold sp_hd
  have h1 : dv p / l ≤ dv (p + 1) / l := Nat.div_le_div_right (hm p (p + 1) (by omega) (by omega))
  have h2 : dv (p + 1) / l ≤ dv q / l := Nat.div_le_div_right (hm (p + 1) q (by omega) hq)
  rw [decide_eq_false (by omega), decide_eq_false (by omega), Bool.or_false]
theorem jp_cf_ge {P : Nat → Bool} {a k : Nat} : jp_cf P (a + 1) k ≤ jp_cf P a (k + 1) := by
  show _ ≤ jp_cf P (a + 1) k + (if P a = true then 1 else 0)
  exact Nat.le_add_right _ _
theorem sp_kp_ge {n : Nat} {dv : Nat → Nat} {l most p k : Nat} (hk : p + 1 + k = n) (h : most ≤ jp_cf (sp_hd n dv l) (p + 1) k) : sp_kp n dv l most p = false := by
  unfold sp_kp
  rw [show n - 1 - p = k by omega, decide_eq_false (by omega), Bool.and_false]
theorem jp_markM {kp kp0 : Nat → Bool} {s : Nat → Bool} {a n : Nat} (h1 : ∀ q, q < a + 1 → q < n → kp q = kp0 q) (h2 : ∀ q, a + 1 ≤ q → q < n → kp q = (kp0 q || s q)) (hs : a < n → s a = false) : (∀ q, q < a → q < n → kp q = kp0 q) ∧ ∀ q, a ≤ q → q < n → kp q = (kp0 q || s q) := by
  refine ⟨fun q hq hn => h1 q (by omega) hn, fun q h3 h4 => ?_⟩
  by_cases e : q = a
  · rw [e] at h4 ⊢
    rw [hs h4, Bool.or_false]; exact h1 a (Nat.lt_succ_self _) h4
  · exact h2 q (by omega) h4
theorem jp_markM' {kp kp0 : Nat → Bool} {s : Nat → Bool} {a n : Nat} (h1 : ∀ q, q < a + 1 → q < n → kp q = kp0 q) (h2 : ∀ q, a + 1 ≤ q → q < n → kp q = (kp0 q || s q)) (hs : s a = true) : (∀ q, q < a → q < n → va_up kp a true q = kp0 q) ∧ ∀ q, a ≤ q → q < n → va_up kp a true q = (kp0 q || s q) := by
  refine ⟨fun q hq hn => by rw [jp_un (by omega)]; exact h1 q (by omega) hn, fun q h3 h4 => ?_⟩
  by_cases e : q = a
  · rw [e, jp_us, hs, Bool.or_true]
  · rw [jp_un e]; exact h2 q (by omega) h4
section
variable {D : va_G} {E : je_E} {h : Nat} {ad : Nat → Nat} {cA : Nat → ClassId} {td n : Nat} {lt : Nat → Bool} {li : Nat → Int32} {he : Nat → Bool} {ct : Nat → Int32} {dy : Nat → Nat} {pn kp : Nat → Bool} {G : jg_G}
theorem mM_head_loop (C : jw_C E cX1_head 5 RX1 (tM cA) 0) (hr : mr_R G lt li he ct dy pn) {p l : Nat} (hp : p < jg_n G) (hl : 1 ≤ l) (hl2 : l < 2 ^ 31) (hret : ∀ pc lv v w', decode cX1_head pc = .ok (.ireturn, 1) → (v = jp_b (sp_hd (jg_n G) (jg_dv G) l p) ∧ w' = (wM h ad cA (jg_td G) lt li (jg_n G) he ct dy pn kp)) → jw_J E 5 w' pc lv [.int v]) : ∀ (k q : Nat), q + k = jg_n G → p < q → (∀ i, p < i → i < q → ¬ jg_dv G i / l = jg_dv G p / l) → jw_J E 5 (wM h ad cA (jg_td G) lt li (jg_n G) he ct dy pn kp) 16 [(0, .ref h), (1, .int (nI p)), (2, .int (nI l)), (3, .int (nI l)), (4, .int (nI q))] [] := by
  intro k
  have hn := mr_n hr
  have htd := mr_td hr
  have hdp := mr_dp hr hp
  induction k with
  | zero =>
    intro q hq hpq h1
    have e : q = jg_n G := hq
    subst e
    refine jr_iload (pc := 16) C dX1_head_16 rfl ?_
    refine jr_aload_n (pc := 18) C dX1_head_18 rfl ?_
    refine jm_g_n (pc := 19) C dX1_head_19 ?_
    refine jr_icmp_geN (tgt := 60) (pc := 22) C dX1_head_22 (by decide) (by omega) (by omega) (fun c_22 => ?_) (fun c_22 => ?_)
    · refine jr_iconst (pc := 60) (v := jp_b true) C dX1_head_60 (by decide) ?_
      exact hret _ _ _ _ dX1_head_61 ⟨by rw [sp_hd_t hp h1], rfl⟩
    · exfalso; omega
  | succ k ih =>
    intro q hq hpq h1
    have hdq := mr_dp hr (p := q) (by omega)
    refine jr_iload (pc := 16) C dX1_head_16 rfl ?_
    refine jr_aload_n (pc := 18) C dX1_head_18 rfl ?_
    refine jm_g_n (pc := 19) C dX1_head_19 ?_
    refine jr_icmp_geN (tgt := 60) (pc := 22) C dX1_head_22 (by decide) (by omega) (by omega) (fun c_22 => ?_) (fun c_22 => ?_)
    · exfalso; omega
    · refine jr_iload (pc := 25) C dX1_head_25 rfl ?_
      refine jr_bipush (pc := 27) (v := nI 14) C dX1_head_27 (by decide) ?_
      refine jr_icmp_geN (tgt := 60) (pc := 29) C dX1_head_29 (by decide) (by omega) (by omega) (fun c_29 => ?_) (fun c_29 => ?_)
      · exfalso; omega
      · refine jr_aload_n (pc := 32) C dX1_head_32 rfl ?_
        refine jm_g_dy (pc := 33) C dX1_head_33 ?_
        refine jr_iload (pc := 36) C dX1_head_36 rfl ?_
        refine jm_l_dy (pc := 38) C (by omega) dX1_head_38 ?_
        refine jr_iload_n (pc := 39) C dX1_head_39 rfl ?_
        refine jr_idivN (pc := 40) C dX1_head_40 (by omega) (by omega) (by omega) ?_
        refine jr_aload_n (pc := 41) C dX1_head_41 rfl ?_
        refine jm_g_dy (pc := 42) C dX1_head_42 ?_
        refine jr_iload_n (pc := 45) C dX1_head_45 rfl ?_
        refine jm_l_dy (pc := 46) C (by omega) dX1_head_46 ?_
        refine jr_iload_n (pc := 47) C dX1_head_47 rfl ?_
        refine jr_idivN (pc := 48) C dX1_head_48 (by omega) (by omega) (by omega) ?_
        refine jr_icmp_neN (tgt := 54) (pc := 49) C dX1_head_49 (by decide) (Nat.lt_of_le_of_lt (Nat.div_le_self _ _) (by omega)) (Nat.lt_of_le_of_lt (Nat.div_le_self _ _) (by omega)) (fun c_49 => ?_) (fun c_49 => ?_)
        · refine jr_inc (pc := 54) C dX1_head_54 rfl (by decide) rfl ?_
          refine jr_goto (tgt := 16) (pc := 57) C dX1_head_57 (by decide) ?_
          refine ih (q + 1) (by omega) (by omega) (fun i hi hi2 => ?_)
          by_cases e : i = q
          · rw [e, ← hdq.1, ← hdp.1]; exact c_49
          · exact h1 i hi (by omega)
        · refine jr_iconst (pc := 52) (v := jp_b false) C dX1_head_52 (by decide) ?_
          exact hret _ _ _ _ dX1_head_53 ⟨by rw [sp_hd_f (fun p q h1 h2 => mr_mono hr h1 h2) hpq (by omega) (by rw [← hdq.1, ← hdp.1]; exact c_49)], rfl⟩
/-- head(p, l): whether p is the last of its period -/
theorem mM_head (hr : mr_R G lt li he ct dy pn) {p l : Nat} (hp : p < jg_n G) (hl : 1 ≤ l) (hl2 : l < 2 ^ 31) : jw_Mi yX1_head cX1_head 5 (some .boolean) 0 D (tM cA) [.ref h, .int (nI p), .int (nI l)] (wM h ad cA (jg_td G) lt li (jg_n G) he ct dy pn kp) (fun v w' => v = jp_b (sp_hd (jg_n G) (jg_dv G) l p) ∧ w' = (wM h ad cA (jg_td G) lt li (jg_n G) he ct dy pn kp)) := by
  refine jw_Mi.of (own := RX1) (by decide) rfl (Nat.le_of_ble_eq_true rfl) (fun v w' hq => by rw [hq.1]; exact jp_nb _) ?_
  intro E hE C hret
  subst hE
  show jw_J E 5 _ 0 [(0, .ref h), (1, .int (nI p)), (2, .int (nI l))] []
  have hn := mr_n hr
  refine jr_iload_n (pc := 0) C dX1_head_0 rfl ?_
  refine jr_iconst (pc := 1) (v := nI 1) C dX1_head_1 (by decide) ?_
  refine jr_icmp_geN (tgt := 9) (pc := 2) C dX1_head_2 (by decide) (by omega) (by omega) (fun c_2 => ?_) (fun c_2 => ?_)
  · refine jr_iload_n (pc := 9) C dX1_head_9 rfl ?_
    refine jr_istore_n (pc := 10) C dX1_head_10 (by decide) rfl ?_
    refine jr_iload_n (pc := 11) C dX1_head_11 rfl ?_
    refine jr_iconst (pc := 12) (v := nI 1) C dX1_head_12 (by decide) ?_
    refine jr_iaddN (pc := 13) C dX1_head_13 ?_
    refine jr_istore (pc := 14) C dX1_head_14 (by decide) rfl ?_
    exact mM_head_loop C hr hp hl hl2 hret (jg_n G - (p + 1)) (p + 1) (by omega) (by omega) (fun i hi hi2 => absurd hi2 (by omega))
  · exfalso; omega
theorem mM_keep_loop (C : jw_C E cX1_keep 5 RX1 (tM cA) 1) (hr : mr_R G lt li he ct dy pn) {l most : Nat} (hl : 1 ≤ l) (hl2 : l < 2 ^ 31) (hm : most < 2 ^ 31) (kp0 : Nat → Bool) (kk : ∀ (kp : Nat → Bool) (lv : List (Nat × Value)), (∀ q, q < jg_n G → kp q = (kp0 q || sp_kp (jg_n G) (jg_dv G) l most q)) → jw_J E 5 (wM h ad cA (jg_td G) lt li (jg_n G) he ct dy pn kp) 52 lv []) : ∀ (a : Nat) (kp : Nat → Bool), a ≤ 14 → (∀ q, q < a → q < jg_n G → kp q = kp0 q) → (∀ q, a ≤ q → q < jg_n G → kp q = (kp0 q || sp_kp (jg_n G) (jg_dv G) l most q)) → jw_J E 5 (wM h ad cA (jg_td G) lt li (jg_n G) he ct dy pn kp) 6 [(0, .ref h), (1, .int (nI l)), (2, .int (nI most)), (3, .int (nI (min (jp_cf (sp_hd (jg_n G) (jg_dv G) l) a (jg_n G - a)) most))), (4, .int (nI a - nI 1))] [] := by
  intro a
  have hn := mr_n hr
  induction a with
  | zero =>
    intro kp ha h1 h2
    refine jr_iload (pc := 6) C dX1_keep_6 rfl ?_
    refine jr_if_lt (tgt := 52) (pc := 8) C dX1_keep_8 (by decide) (fun c_8 => ?_) (fun c_8 => ?_)
    · exact kk kp _ (fun q hq => h2 q (Nat.zero_le _) hq)
    · exact absurd (by decide) c_8
  | succ a ih =>
    intro kp ha h1 h2
    rw [jp_pred]
    have hcl := jp_cf_le (sp_hd (jg_n G) (jg_dv G) l) (jg_n G - (a + 1)) (a + 1)
    have hge := jp_cf_ge (P := (sp_hd (jg_n G) (jg_dv G) l)) (a := a) (k := jg_n G - (a + 1))
    refine jr_iload (pc := 6) C dX1_keep_6 rfl ?_
    refine jr_if_ltN (tgt := 52) (pc := 8) C dX1_keep_8 (by decide) (by omega) ?_
    refine jr_iload (pc := 11) C dX1_keep_11 rfl ?_
    refine jr_aload_n (pc := 13) C dX1_keep_13 rfl ?_
    refine jm_g_n (pc := 14) C dX1_keep_14 ?_
    refine jr_icmp_geN (tgt := 46) (pc := 17) C dX1_keep_17 (by decide) (by omega) (by omega) (fun c_17 => ?_) (fun c_17 => ?_)
    · refine jr_iincv (pc := 46) C dX1_keep_46 rfl (jp_dec _) (by decide) rfl ?_
      refine jr_goto (tgt := 6) (pc := 49) C dX1_keep_49 (by decide) ?_
      first
        | (obtain ⟨g1, g2⟩ := jp_markM' h1 h2 ((sp_kp_h (k := jg_n G - (a + 1)) c_32 (by omega)).trans (decide_eq_true (by omega))); rw [show min (jp_cf (sp_hd (jg_n G) (jg_dv G) l) (a + 1) (jg_n G - (a + 1))) most + 1 = min (jp_cf (sp_hd (jg_n G) (jg_dv G) l) a (jg_n G - a)) most from by rw [show jg_n G - a = jg_n G - (a + 1) + 1 by omega]; rw [jp_cf_t (P := (sp_hd (jg_n G) (jg_dv G) l)) c_32]; omega]; exact ih _ (by omega) g1 g2)
        | (obtain ⟨g1, g2⟩ := jp_markM h1 h2 (fun _ => sp_kp_f (most := most) c_32); rw [show min (jp_cf (sp_hd (jg_n G) (jg_dv G) l) (a + 1) (jg_n G - (a + 1))) most = min (jp_cf (sp_hd (jg_n G) (jg_dv G) l) a (jg_n G - a)) most from by rw [show jg_n G - a = jg_n G - (a + 1) + 1 by omega]; rw [jp_cf_f (P := (sp_hd (jg_n G) (jg_dv G) l)) c_32]]; exact ih _ (by omega) g1 g2)
        | (obtain ⟨g1, g2⟩ := jp_markM h1 h2 (fun _ => sp_kp_ge (k := jg_n G - (a + 1)) (by omega) (by omega)); rw [show min (jp_cf (sp_hd (jg_n G) (jg_dv G) l) (a + 1) (jg_n G - (a + 1))) most = min (jp_cf (sp_hd (jg_n G) (jg_dv G) l) a (jg_n G - a)) most from by rw [show jg_n G - a = jg_n G - (a + 1) + 1 by omega]; omega]; exact ih _ (by omega) g1 g2)
        | (obtain ⟨g1, g2⟩ := jp_markM h1 h2 (fun z => absurd z (Nat.not_lt.mpr c_17)); rw [show min (jp_cf (sp_hd (jg_n G) (jg_dv G) l) (a + 1) (jg_n G - (a + 1))) most = min (jp_cf (sp_hd (jg_n G) (jg_dv G) l) a (jg_n G - a)) most from by rw [show jg_n G - a = 0 by omega, show jg_n G - (a + 1) = 0 by omega]; rfl]; exact ih _ (by omega) g1 g2)
    · refine jr_iload_n (pc := 20) C dX1_keep_20 rfl ?_
      refine jr_iload_n (pc := 21) C dX1_keep_21 rfl ?_
      refine jr_icmp_geN (tgt := 46) (pc := 22) C dX1_keep_22 (by decide) (by omega) (by omega) (fun c_22 => ?_) (fun c_22 => ?_)
      · refine jr_iincv (pc := 46) C dX1_keep_46 rfl (jp_dec _) (by decide) rfl ?_
        refine jr_goto (tgt := 6) (pc := 49) C dX1_keep_49 (by decide) ?_
        first
          | (obtain ⟨g1, g2⟩ := jp_markM' h1 h2 ((sp_kp_h (k := jg_n G - (a + 1)) c_32 (by omega)).trans (decide_eq_true (by omega))); rw [show min (jp_cf (sp_hd (jg_n G) (jg_dv G) l) (a + 1) (jg_n G - (a + 1))) most + 1 = min (jp_cf (sp_hd (jg_n G) (jg_dv G) l) a (jg_n G - a)) most from by rw [show jg_n G - a = jg_n G - (a + 1) + 1 by omega]; rw [jp_cf_t (P := (sp_hd (jg_n G) (jg_dv G) l)) c_32]; omega]; exact ih _ (by omega) g1 g2)
          | (obtain ⟨g1, g2⟩ := jp_markM h1 h2 (fun _ => sp_kp_f (most := most) c_32); rw [show min (jp_cf (sp_hd (jg_n G) (jg_dv G) l) (a + 1) (jg_n G - (a + 1))) most = min (jp_cf (sp_hd (jg_n G) (jg_dv G) l) a (jg_n G - a)) most from by rw [show jg_n G - a = jg_n G - (a + 1) + 1 by omega]; rw [jp_cf_f (P := (sp_hd (jg_n G) (jg_dv G) l)) c_32]]; exact ih _ (by omega) g1 g2)
          | (obtain ⟨g1, g2⟩ := jp_markM h1 h2 (fun _ => sp_kp_ge (k := jg_n G - (a + 1)) (by omega) (by omega)); rw [show min (jp_cf (sp_hd (jg_n G) (jg_dv G) l) (a + 1) (jg_n G - (a + 1))) most = min (jp_cf (sp_hd (jg_n G) (jg_dv G) l) a (jg_n G - a)) most from by rw [show jg_n G - a = jg_n G - (a + 1) + 1 by omega]; omega]; exact ih _ (by omega) g1 g2)
          | (obtain ⟨g1, g2⟩ := jp_markM h1 h2 (fun z => absurd z (Nat.not_lt.mpr c_17)); rw [show min (jp_cf (sp_hd (jg_n G) (jg_dv G) l) (a + 1) (jg_n G - (a + 1))) most = min (jp_cf (sp_hd (jg_n G) (jg_dv G) l) a (jg_n G - a)) most from by rw [show jg_n G - a = 0 by omega, show jg_n G - (a + 1) = 0 by omega]; rfl]; exact ih _ (by omega) g1 g2)
      · refine jr_aload_n (pc := 25) C dX1_keep_25 rfl ?_
        refine jr_iload (pc := 26) C dX1_keep_26 rfl ?_
        refine jr_iload_n (pc := 28) C dX1_keep_28 rfl ?_
        refine jr_calli (pc := 29) C gw_X1_58 ok_X1_head (mM_head hr (by omega) hl hl2) rfl (by decide) (by decide) rfl rfl dX1_keep_29 rfl (Nat.le_of_ble_eq_true rfl) ?_
        rintro _ _ ⟨rfl, rfl⟩
        refine jr_if_eqB (tgt := 46) (pc := 32) C dX1_keep_32 (by decide) (fun c_32 => ?_) (fun c_32 => ?_)
        · refine jr_iincv (pc := 46) C dX1_keep_46 rfl (jp_dec _) (by decide) rfl ?_
          refine jr_goto (tgt := 6) (pc := 49) C dX1_keep_49 (by decide) ?_
          first
            | (obtain ⟨g1, g2⟩ := jp_markM' h1 h2 ((sp_kp_h (k := jg_n G - (a + 1)) c_32 (by omega)).trans (decide_eq_true (by omega))); rw [show min (jp_cf (sp_hd (jg_n G) (jg_dv G) l) (a + 1) (jg_n G - (a + 1))) most + 1 = min (jp_cf (sp_hd (jg_n G) (jg_dv G) l) a (jg_n G - a)) most from by rw [show jg_n G - a = jg_n G - (a + 1) + 1 by omega]; rw [jp_cf_t (P := (sp_hd (jg_n G) (jg_dv G) l)) c_32]; omega]; exact ih _ (by omega) g1 g2)
            | (obtain ⟨g1, g2⟩ := jp_markM h1 h2 (fun _ => sp_kp_f (most := most) c_32); rw [show min (jp_cf (sp_hd (jg_n G) (jg_dv G) l) (a + 1) (jg_n G - (a + 1))) most = min (jp_cf (sp_hd (jg_n G) (jg_dv G) l) a (jg_n G - a)) most from by rw [show jg_n G - a = jg_n G - (a + 1) + 1 by omega]; rw [jp_cf_f (P := (sp_hd (jg_n G) (jg_dv G) l)) c_32]]; exact ih _ (by omega) g1 g2)
            | (obtain ⟨g1, g2⟩ := jp_markM h1 h2 (fun _ => sp_kp_ge (k := jg_n G - (a + 1)) (by omega) (by omega)); rw [show min (jp_cf (sp_hd (jg_n G) (jg_dv G) l) (a + 1) (jg_n G - (a + 1))) most = min (jp_cf (sp_hd (jg_n G) (jg_dv G) l) a (jg_n G - a)) most from by rw [show jg_n G - a = jg_n G - (a + 1) + 1 by omega]; omega]; exact ih _ (by omega) g1 g2)
            | (obtain ⟨g1, g2⟩ := jp_markM h1 h2 (fun z => absurd z (Nat.not_lt.mpr c_17)); rw [show min (jp_cf (sp_hd (jg_n G) (jg_dv G) l) (a + 1) (jg_n G - (a + 1))) most = min (jp_cf (sp_hd (jg_n G) (jg_dv G) l) a (jg_n G - a)) most from by rw [show jg_n G - a = 0 by omega, show jg_n G - (a + 1) = 0 by omega]; rfl]; exact ih _ (by omega) g1 g2)
        · refine jr_aload_n (pc := 35) C dX1_keep_35 rfl ?_
          refine jm_g_kp (pc := 36) C dX1_keep_36 ?_
          refine jr_iload (pc := 39) C dX1_keep_39 rfl ?_
          refine jr_iconst (pc := 41) (v := nI 1) C dX1_keep_41 (by decide) ?_
          refine jr_top (show nI 1 = jp_b true from by decide) ?_
          refine jm_s_kp (pc := 42) C (by omega) dX1_keep_42 ?_
          refine jr_inc (pc := 43) C dX1_keep_43 rfl (by decide) rfl ?_
          refine jr_iincv (pc := 46) C dX1_keep_46 rfl (jp_dec _) (by decide) rfl ?_
          refine jr_goto (tgt := 6) (pc := 49) C dX1_keep_49 (by decide) ?_
          first
            | (obtain ⟨g1, g2⟩ := jp_markM' h1 h2 ((sp_kp_h (k := jg_n G - (a + 1)) c_32 (by omega)).trans (decide_eq_true (by omega))); rw [show min (jp_cf (sp_hd (jg_n G) (jg_dv G) l) (a + 1) (jg_n G - (a + 1))) most + 1 = min (jp_cf (sp_hd (jg_n G) (jg_dv G) l) a (jg_n G - a)) most from by rw [show jg_n G - a = jg_n G - (a + 1) + 1 by omega]; rw [jp_cf_t (P := (sp_hd (jg_n G) (jg_dv G) l)) c_32]; omega]; exact ih _ (by omega) g1 g2)
            | (obtain ⟨g1, g2⟩ := jp_markM h1 h2 (fun _ => sp_kp_f (most := most) c_32); rw [show min (jp_cf (sp_hd (jg_n G) (jg_dv G) l) (a + 1) (jg_n G - (a + 1))) most = min (jp_cf (sp_hd (jg_n G) (jg_dv G) l) a (jg_n G - a)) most from by rw [show jg_n G - a = jg_n G - (a + 1) + 1 by omega]; rw [jp_cf_f (P := (sp_hd (jg_n G) (jg_dv G) l)) c_32]]; exact ih _ (by omega) g1 g2)
            | (obtain ⟨g1, g2⟩ := jp_markM h1 h2 (fun _ => sp_kp_ge (k := jg_n G - (a + 1)) (by omega) (by omega)); rw [show min (jp_cf (sp_hd (jg_n G) (jg_dv G) l) (a + 1) (jg_n G - (a + 1))) most = min (jp_cf (sp_hd (jg_n G) (jg_dv G) l) a (jg_n G - a)) most from by rw [show jg_n G - a = jg_n G - (a + 1) + 1 by omega]; omega]; exact ih _ (by omega) g1 g2)
            | (obtain ⟨g1, g2⟩ := jp_markM h1 h2 (fun z => absurd z (Nat.not_lt.mpr c_17)); rw [show min (jp_cf (sp_hd (jg_n G) (jg_dv G) l) (a + 1) (jg_n G - (a + 1))) most = min (jp_cf (sp_hd (jg_n G) (jg_dv G) l) a (jg_n G - a)) most from by rw [show jg_n G - a = 0 by omega, show jg_n G - (a + 1) = 0 by omega]; rfl]; exact ih _ (by omega) g1 g2)
/-- keep(l, most): the last heads have their marks -/
theorem mM_keep (hr : mr_R G lt li he ct dy pn) {l most : Nat} (hl : 1 ≤ l) (hl2 : l < 2 ^ 31) (hm : most < 2 ^ 31) : jw_Mv yX1_keep cX1_keep 5 1 D (tM cA) [.ref h, .int (nI l), .int (nI most)] (wM h ad cA (jg_td G) lt li (jg_n G) he ct dy pn kp) (fun w' => ∃ kp', w' = (wM h ad cA (jg_td G) lt li (jg_n G) he ct dy pn kp') ∧ ∀ q, q < jg_n G → kp' q = (kp q || sp_kp (jg_n G) (jg_dv G) l most q)) := by
  refine jw_Mv.of (own := RX1) (by decide) rfl (Nat.le_of_ble_eq_true rfl) ?_
  intro E hE C hret
  subst hE
  show jw_J E 5 _ 0 [(0, .ref h), (1, .int (nI l)), (2, .int (nI most))] []
  have hn := mr_n hr
  refine jr_iconst (pc := 0) (v := nI 0) C dX1_keep_0 (by decide) ?_
  refine jr_istore_n (pc := 1) C dX1_keep_1 (by decide) rfl ?_
  refine jr_bipush (pc := 2) (v := nI 13) C dX1_keep_2 (by decide) ?_
  refine jr_istore (pc := 4) C dX1_keep_4 (by decide) rfl ?_
  have hL := mM_keep_loop C hr hl hl2 hm kp (fun kp' lv hk => hret _ _ _ dX1_keep_52 ⟨kp', rfl, hk⟩) 14 kp (Nat.le_refl _) (fun q hq hq2 => rfl) (fun q h1 h2 => absurd h2 (by omega))
  rw [show nI 14 - nI 1 = nI 13 from jp_pred 13, show jg_n G - 14 = 0 by omega] at hL
  exact jr_sub hL (by show _ = _; rw [show min (jp_cf (sp_hd (jg_n G) (jg_dv G) l) 14 0) most = 0 from Nat.zero_min _]; rfl)
theorem mM_prune_first (C : jw_C E cX1_prune 4 RX1 (tM cA) 2) (hr : mr_R G lt li he ct dy pn) {pl : Nat} (kk : ∀ kp : Nat → Bool, (∀ q, q < jg_n G → kp q = (jg_pv G q || decide (q + 1 = jg_n G))) → jw_J E 4 (wM h ad cA (jg_td G) lt li (jg_n G) he ct dy pn kp) 65 [(0, .ref h), (1, .int (nI pl)), (2, .int (nI 14))] []) : ∀ (k i : Nat) (kp : Nat → Bool), i + k = 14 → (∀ q, q < i → q < jg_n G → kp q = (jg_pv G q || decide (q + 1 = jg_n G))) → jw_J E 4 (wM h ad cA (jg_td G) lt li (jg_n G) he ct dy pn kp) 15 [(0, .ref h), (1, .int (nI pl)), (2, .int (nI i))] [] := by
  intro k
  have hn := mr_n hr
  induction k with
  | zero =>
    intro i kp hi h1
    have e : i = 14 := hi
    subst e
    refine jr_iload_n (pc := 15) C dX1_prune_15 rfl ?_
    refine jr_bipush (pc := 16) (v := nI 14) C dX1_prune_16 (by decide) ?_
    refine jr_icmp_geN (tgt := 65) (pc := 18) C dX1_prune_18 (by decide) (by omega) (by omega) (fun c_18 => ?_) (fun c_18 => ?_)
    · exact kk kp (fun q hq => h1 q (by omega) hq)
    · exfalso; omega
  | succ k ih =>
    intro i kp hi h1
    refine jr_iload_n (pc := 15) C dX1_prune_15 rfl ?_
    refine jr_bipush (pc := 16) (v := nI 14) C dX1_prune_16 (by decide) ?_
    refine jr_icmp_geN (tgt := 65) (pc := 18) C dX1_prune_18 (by decide) (by omega) (by omega) (fun c_18 => ?_) (fun c_18 => ?_)
    · exfalso; omega
    · refine jr_aload_n (pc := 21) C dX1_prune_21 rfl ?_
      refine jm_g_kp (pc := 22) C dX1_prune_22 ?_
      refine jr_iload_n (pc := 25) C dX1_prune_25 rfl ?_
      refine jr_iload_n (pc := 26) C dX1_prune_26 rfl ?_
      refine jr_aload_n (pc := 27) C dX1_prune_27 rfl ?_
      refine jm_g_n (pc := 28) C dX1_prune_28 ?_
      refine jr_icmp_geN (tgt := 57) (pc := 31) C dX1_prune_31 (by decide) (by omega) (by omega) (fun c_31 => ?_) (fun c_31 => ?_)
      · refine jr_iconst (pc := 57) (v := jp_b false) C dX1_prune_57 (by decide) ?_
        refine jm_s_kp (pc := 58) C (by omega) dX1_prune_58 ?_
        refine jr_inc (pc := 59) C dX1_prune_59 rfl (by decide) rfl ?_
        refine jr_goto (tgt := 15) (pc := 62) C dX1_prune_62 (by decide) ?_
        refine ih (i + 1) _ (by omega) (fun q hq hqn => ?_)
        by_cases e : q = i
        · rw [e, jp_us]
          first
            | (exfalso; omega)
            | rw [← hdp.2.1, c_40, Bool.true_or]
            | rw [← hdp.2.1, c_40, Bool.false_or, decide_eq_true (by omega)]
            | rw [← hdp.2.1, c_40, Bool.false_or, decide_eq_false (by omega)]
        · rw [jp_un e]; exact h1 q (by omega) hqn
      · have hdp := mr_dp hr (p := i) (by omega)
        refine jr_aload_n (pc := 34) C dX1_prune_34 rfl ?_
        refine jm_g_pn (pc := 35) C dX1_prune_35 ?_
        refine jr_iload_n (pc := 38) C dX1_prune_38 rfl ?_
        refine jm_l_pn (pc := 39) C (by omega) dX1_prune_39 ?_
        refine jr_if_neB (tgt := 53) (pc := 40) C dX1_prune_40 (by decide) (fun c_40 => ?_) (fun c_40 => ?_)
        · refine jr_iconst (pc := 53) (v := jp_b true) C dX1_prune_53 (by decide) ?_
          refine jr_goto (tgt := 58) (pc := 54) C dX1_prune_54 (by decide) ?_
          refine jm_s_kp (pc := 58) C (by omega) dX1_prune_58 ?_
          refine jr_inc (pc := 59) C dX1_prune_59 rfl (by decide) rfl ?_
          refine jr_goto (tgt := 15) (pc := 62) C dX1_prune_62 (by decide) ?_
          refine ih (i + 1) _ (by omega) (fun q hq hqn => ?_)
          by_cases e : q = i
          · rw [e, jp_us]
            first
              | (exfalso; omega)
              | rw [← hdp.2.1, c_40, Bool.true_or]
              | rw [← hdp.2.1, c_40, Bool.false_or, decide_eq_true (by omega)]
              | rw [← hdp.2.1, c_40, Bool.false_or, decide_eq_false (by omega)]
          · rw [jp_un e]; exact h1 q (by omega) hqn
        · refine jr_iload_n (pc := 43) C dX1_prune_43 rfl ?_
          refine jr_aload_n (pc := 44) C dX1_prune_44 rfl ?_
          refine jm_g_n (pc := 45) C dX1_prune_45 ?_
          refine jr_iconst (pc := 48) (v := nI 1) C dX1_prune_48 (by decide) ?_
          refine jr_isubN (pc := 49) C dX1_prune_49 (by omega) ?_
          refine jr_icmp_neN (tgt := 57) (pc := 50) C dX1_prune_50 (by decide) (by omega) (by omega) (fun c_50 => ?_) (fun c_50 => ?_)
          · refine jr_iconst (pc := 57) (v := jp_b false) C dX1_prune_57 (by decide) ?_
            refine jm_s_kp (pc := 58) C (by omega) dX1_prune_58 ?_
            refine jr_inc (pc := 59) C dX1_prune_59 rfl (by decide) rfl ?_
            refine jr_goto (tgt := 15) (pc := 62) C dX1_prune_62 (by decide) ?_
            refine ih (i + 1) _ (by omega) (fun q hq hqn => ?_)
            by_cases e : q = i
            · rw [e, jp_us]
              first
                | (exfalso; omega)
                | rw [← hdp.2.1, c_40, Bool.true_or]
                | rw [← hdp.2.1, c_40, Bool.false_or, decide_eq_true (by omega)]
                | rw [← hdp.2.1, c_40, Bool.false_or, decide_eq_false (by omega)]
            · rw [jp_un e]; exact h1 q (by omega) hqn
          · refine jr_iconst (pc := 53) (v := jp_b true) C dX1_prune_53 (by decide) ?_
            refine jr_goto (tgt := 58) (pc := 54) C dX1_prune_54 (by decide) ?_
            refine jm_s_kp (pc := 58) C (by omega) dX1_prune_58 ?_
            refine jr_inc (pc := 59) C dX1_prune_59 rfl (by decide) rfl ?_
            refine jr_goto (tgt := 15) (pc := 62) C dX1_prune_62 (by decide) ?_
            refine ih (i + 1) _ (by omega) (fun q hq hqn => ?_)
            by_cases e : q = i
            · rw [e, jp_us]
              first
                | (exfalso; omega)
                | rw [← hdp.2.1, c_40, Bool.true_or]
                | rw [← hdp.2.1, c_40, Bool.false_or, decide_eq_true (by omega)]
                | rw [← hdp.2.1, c_40, Bool.false_or, decide_eq_false (by omega)]
            · rw [jp_un e]; exact h1 q (by omega) hqn
theorem mM_prune_last (C : jw_C E cX1_prune 4 RX1 (tM cA) 2) {pl N : Nat} {K : Nat → Bool} (hN : N ≤ 14) {R : jg_G × Nat} (hret : ∀ pc lv v w', decode cX1_prune pc = .ok (.ireturn, 1) → (v = nI R.2 ∧ mw_R h ad cA R.1 w') → jw_J E 4 w' pc lv [.int v]) : ∀ (a d : Nat) (G : jg_G) (kp : Nat → Bool) (lt : Nat → Bool) (li : Nat → Int32) (he : Nat → Bool) (ct : Nat → Int32) (dy : Nat → Nat) (pn : Nat → Bool), mr_R G lt li he ct dy pn → a ≤ 14 → (N ≤ a → jg_n G = N) → (a ≤ N → a ≤ jg_n G) → (∀ q, q < a → q < N → kp q = K q) → sp_prn K (min a N) G d = R → jw_J E 4 (wM h ad cA (jg_td G) lt li (jg_n G) he ct dy pn kp) 102 [(0, .ref h), (1, .int (nI pl)), (2, .int (nI d)), (3, .int (nI a - nI 1))] [] := by
  intro a
  induction a with
  | zero =>
    intro d G kp lt li he ct dy pn hr ha hA hB hK hR
    rw [Nat.zero_min] at hR
    have hR : (G, d) = R := hR
    subst hR
    refine jr_iload_n (pc := 102) C dX1_prune_102 rfl ?_
    refine jr_if_lt (tgt := 137) (pc := 103) C dX1_prune_103 (by decide) (fun c_103 => ?_) (fun c_103 => ?_)
    · refine jr_iload_n (pc := 137) C dX1_prune_137 rfl ?_
      exact hret _ _ _ _ dX1_prune_138 ⟨rfl, mw_in hr⟩
    · exact absurd (by decide) c_103
  | succ a ih =>
    intro d G kp lt li he ct dy pn hr ha hA hB hK hR
    rw [jp_pred]
    have hn := mr_n hr
    refine jr_iload_n (pc := 102) C dX1_prune_102 rfl ?_
    refine jr_if_ltN (tgt := 137) (pc := 103) C dX1_prune_103 (by decide) (by omega) ?_
    refine jr_iload_n (pc := 106) C dX1_prune_106 rfl ?_
    refine jr_aload_n (pc := 107) C dX1_prune_107 rfl ?_
    refine jm_g_n (pc := 108) C dX1_prune_108 ?_
    refine jr_icmp_geN (tgt := 131) (pc := 111) C dX1_prune_111 (by decide) (by omega) (by omega) (fun c_111 => ?_) (fun c_111 => ?_)
    · refine jr_iincv (pc := 131) C dX1_prune_131 rfl (jp_dec _) (by decide) rfl ?_
      refine jr_goto (tgt := 102) (pc := 134) C dX1_prune_134 (by decide) ?_
      first
        | exact ih (d + 1) (jg_rm G a) kp1 _ _ _ _ _ _ hr1 (by omega) (fun z => absurd z (by omega)) (fun _ => show a ≤ jg_n G - 1 by omega) (fun q hq hq2 => by rw [hkp1 q hq]; exact hK q (by omega) hq2) (by rw [c_120] at hR; rw [show min a N = a by omega]; exact hR)
        | exact ih d G kp _ _ _ _ _ _ hr (by omega) (fun z => absurd z (by omega)) (fun _ => by omega) (fun q hq hq2 => hK q (by omega) hq2) (by rw [c_120] at hR; rw [show min a N = a by omega]; exact hR)
        | exact ih d G kp _ _ _ _ _ _ hr (by omega) (fun z => hA (by omega)) (fun z => by omega) (fun q hq hq2 => hK q (by omega) hq2) (by rw [show min (a + 1) N = min a N by omega] at hR; exact hR)
    · have haN : a < N := by omega
      rw [show min (a + 1) N = a + 1 by omega] at hR
      have hR : (if K a = true then sp_prn K a G d else sp_prn K a (jg_rm G a) (d + 1)) = R := hR
      rw [← hK a (Nat.lt_succ_self _) haN] at hR
      refine jr_aload_n (pc := 114) C dX1_prune_114 rfl ?_
      refine jm_g_kp (pc := 115) C dX1_prune_115 ?_
      refine jr_iload_n (pc := 118) C dX1_prune_118 rfl ?_
      refine jm_l_kp (pc := 119) C (by omega) dX1_prune_119 ?_
      refine jr_if_neB (tgt := 131) (pc := 120) C dX1_prune_120 (by decide) (fun c_120 => ?_) (fun c_120 => ?_)
      · refine jr_iincv (pc := 131) C dX1_prune_131 rfl (jp_dec _) (by decide) rfl ?_
        refine jr_goto (tgt := 102) (pc := 134) C dX1_prune_134 (by decide) ?_
        first
          | exact ih (d + 1) (jg_rm G a) kp1 _ _ _ _ _ _ hr1 (by omega) (fun z => absurd z (by omega)) (fun _ => show a ≤ jg_n G - 1 by omega) (fun q hq hq2 => by rw [hkp1 q hq]; exact hK q (by omega) hq2) (by rw [c_120] at hR; rw [show min a N = a by omega]; exact hR)
          | exact ih d G kp _ _ _ _ _ _ hr (by omega) (fun z => absurd z (by omega)) (fun _ => by omega) (fun q hq hq2 => hK q (by omega) hq2) (by rw [c_120] at hR; rw [show min a N = a by omega]; exact hR)
          | exact ih d G kp _ _ _ _ _ _ hr (by omega) (fun z => hA (by omega)) (fun z => by omega) (fun q hq hq2 => hK q (by omega) hq2) (by rw [show min (a + 1) N = min a N by omega] at hR; exact hR)
      · refine jr_aload_n (pc := 123) C dX1_prune_123 rfl ?_
        refine jr_iload_n (pc := 124) C dX1_prune_124 rfl ?_
        refine jr_callv (pc := 125) C gw_X1_54 ok_X1_takeOut (mM_takeOut hr (p := a) (by omega)) rfl (by decide) (by decide) rfl rfl dX1_prune_125 rfl (Nat.le_of_ble_eq_true rfl) ?_
        rintro _ ⟨kp1, hkp1, lt1, li1, he1, ct1, dy1, pn1, rfl, hr1⟩
        refine jr_inc (pc := 128) C dX1_prune_128 rfl (by decide) rfl ?_
        refine jr_iincv (pc := 131) C dX1_prune_131 rfl (jp_dec _) (by decide) rfl ?_
        refine jr_goto (tgt := 102) (pc := 134) C dX1_prune_134 (by decide) ?_
        first
          | exact ih (d + 1) (jg_rm G a) kp1 _ _ _ _ _ _ hr1 (by omega) (fun z => absurd z (by omega)) (fun _ => show a ≤ jg_n G - 1 by omega) (fun q hq hq2 => by rw [hkp1 q hq]; exact hK q (by omega) hq2) (by rw [c_120] at hR; rw [show min a N = a by omega]; exact hR)
          | exact ih d G kp _ _ _ _ _ _ hr (by omega) (fun z => absurd z (by omega)) (fun _ => by omega) (fun q hq hq2 => hK q (by omega) hq2) (by rw [c_120] at hR; rw [show min a N = a by omega]; exact hR)
          | exact ih d G kp _ _ _ _ _ _ hr (by omega) (fun z => hA (by omega)) (fun z => by omega) (fun q hq hq2 => hK q (by omega) hq2) (by rw [show min (a + 1) N = min a N by omega] at hR; exact hR)
theorem mM_prune (hr : mr_R G lt li he ct dy pn) (a : Int32) : jw_Mi yX1_prune cX1_prune 4 (some .int) 2 D (tM cA) [.ref h, .int a] (wM h ad cA (jg_td G) lt li (jg_n G) he ct dy pn kp) (fun r w' => r = (sp_prune a G).1 ∧ mw_R h ad cA (sp_prune a G).2 w') := by
  have hn := mr_n hr
  cases hq : jp_ix a 1000 with
  | none =>
    rw [show sp_prune a G = (-1, G) from by simp only [sp_prune, hq]]
    refine jw_Mi.of (own := RX1) (by decide) rfl (Nat.le_of_ble_eq_true rfl) (fun _ _ _ => rfl) ?_
    intro E hE C hret
    subst hE
    show jw_J E 4 _ 0 [(0, .ref h), (1, .int a)] []
    refine jr_iload_n (pc := 0) C dX1_prune_0 rfl ?_
    refine jr_if_lt (tgt := 11) (pc := 1) C dX1_prune_1 (by decide) (fun c_1 => ?_) (fun c_1 => ?_)
    · refine jr_iconst (pc := 11) (v := (-1)) C dX1_prune_11 (by decide) ?_
      exact hret _ _ _ _ dX1_prune_12 ⟨rfl, mw_in hr⟩
    · refine jr_iload_n (pc := 4) C dX1_prune_4 rfl ?_
      refine jr_sipush (pc := 5) (v := nI 999) C dX1_prune_5 (by decide) ?_
      refine jr_icmp_le (tgt := 13) (pc := 8) C dX1_prune_8 (by decide) (fun c_8 => ?_) (fun c_8 => ?_)
      · exact absurd c_8 (fun q => jp_ix_abs (m := 999) rfl (by omega) hq c_1 q)
      · refine jr_iconst (pc := 11) (v := (-1)) C dX1_prune_11 (by decide) ?_
        exact hret _ _ _ _ dX1_prune_12 ⟨rfl, mw_in hr⟩
  | some pl =>
    obtain ⟨hpl, rfl⟩ := jp_ix_some hq
    rw [show sp_prune (nI pl) G = (nI (sp_prn (sp_K (jg_n G) (jg_dv G) (jg_pv G) pl) (jg_n G) G 0).2, (sp_prn (sp_K (jg_n G) (jg_dv G) (jg_pv G) pl) (jg_n G) G 0).1) from by simp only [sp_prune, hq]]
    refine jw_Mi.of (own := RX1) (by decide) rfl (Nat.le_of_ble_eq_true rfl) (fun _ _ _ => rfl) ?_
    intro E hE C hret
    subst hE
    show jw_J E 4 _ 0 [(0, .ref h), (1, .int (nI pl))] []
    refine jr_iload_n (pc := 0) C dX1_prune_0 rfl ?_
    refine jr_if_ltN (tgt := 11) (pc := 1) C dX1_prune_1 (by decide) (by omega) ?_
    refine jr_iload_n (pc := 4) C dX1_prune_4 rfl ?_
    refine jr_sipush (pc := 5) (v := nI 999) C dX1_prune_5 (by decide) ?_
    refine jr_icmp_leN (tgt := 13) (pc := 8) C dX1_prune_8 (by decide) (by omega) (by omega) (fun c_8 => ?_) (fun c_8 => ?_)
    · refine jr_iconst (pc := 13) (v := nI 0) C dX1_prune_13 (by decide) ?_
      refine jr_istore_n (pc := 14) C dX1_prune_14 (by decide) rfl ?_
      refine mM_prune_first C hr (fun kp0 hk0 => ?_) 14 0 kp (by omega) (fun q hq hqn => absurd hq (Nat.not_lt_zero _))
      refine jr_aload_n (pc := 65) C dX1_prune_65 rfl ?_
      refine jr_iconst (pc := 66) (v := nI 1) C dX1_prune_66 (by decide) ?_
      refine jr_iload_n (pc := 67) C dX1_prune_67 rfl ?_
      refine jr_bipush (pc := 68) (v := nI 100) C dX1_prune_68 (by decide) ?_
      refine jr_idivN (pc := 70) C dX1_prune_70 (by omega) (by omega) (by omega) ?_
      refine jr_callv (pc := 71) C gw_X1_61 ok_X1_keep (mM_keep hr (l := 1) (most := pl / 100) (by omega) (by omega) (by omega)) rfl (by decide) (by decide) rfl rfl dX1_prune_71 rfl (Nat.le_of_ble_eq_true rfl) ?_
      rintro _ ⟨kp1, rfl, hk1⟩
      refine jr_aload_n (pc := 74) C dX1_prune_74 rfl ?_
      refine jr_bipush (pc := 75) (v := nI 7) C dX1_prune_75 (by decide) ?_
      refine jr_iload_n (pc := 77) C dX1_prune_77 rfl ?_
      refine jr_bipush (pc := 78) (v := nI 10) C dX1_prune_78 (by decide) ?_
      refine jr_idivN (pc := 80) C dX1_prune_80 (by omega) (by omega) (by omega) ?_
      refine jr_bipush (pc := 81) (v := nI 10) C dX1_prune_81 (by decide) ?_
      refine jr_iremN (pc := 83) C dX1_prune_83 (by omega) (by omega) (by omega) ?_
      refine jr_callv (pc := 84) C gw_X1_61 ok_X1_keep (mM_keep hr (l := 7) (most := pl / 10 % 10) (by omega) (by omega) (by omega)) rfl (by decide) (by decide) rfl rfl dX1_prune_84 rfl (Nat.le_of_ble_eq_true rfl) ?_
      rintro _ ⟨kp2, rfl, hk2⟩
      refine jr_aload_n (pc := 87) C dX1_prune_87 rfl ?_
      refine jr_bipush (pc := 88) (v := nI 28) C dX1_prune_88 (by decide) ?_
      refine jr_iload_n (pc := 90) C dX1_prune_90 rfl ?_
      refine jr_bipush (pc := 91) (v := nI 10) C dX1_prune_91 (by decide) ?_
      refine jr_iremN (pc := 93) C dX1_prune_93 (by omega) (by omega) (by omega) ?_
      refine jr_callv (pc := 94) C gw_X1_61 ok_X1_keep (mM_keep hr (l := 28) (most := pl % 10) (by omega) (by omega) (by omega)) rfl (by decide) (by decide) rfl rfl dX1_prune_94 rfl (Nat.le_of_ble_eq_true rfl) ?_
      rintro _ ⟨kp3, rfl, hk3⟩
      refine jr_iconst (pc := 97) (v := nI 0) C dX1_prune_97 (by decide) ?_
      refine jr_istore_n (pc := 98) C dX1_prune_98 (by decide) rfl ?_
      refine jr_bipush (pc := 99) (v := nI 13) C dX1_prune_99 (by decide) ?_
      refine jr_istore_n (pc := 101) C dX1_prune_101 (by decide) rfl ?_
      have hL := mM_prune_last (N := jg_n G) (K := (sp_K (jg_n G) (jg_dv G) (jg_pv G) pl)) (pl := pl) C hn hret 14 0 G kp3 _ _ _ _ _ _ hr (Nat.le_refl _) (fun _ => rfl) (fun z => z) (fun q hq hqn => by rw [hk3 q hqn, hk2 q hqn, hk1 q hqn, hk0 q hqn]; rfl) (by rw [show min 14 (jg_n G) = jg_n G by omega])
      rw [show nI 14 - nI 1 = nI 13 from jp_pred 13] at hL
      exact hL
    · exfalso; omega
end
end
section
/-! the constructors -/
set_option maxRecDepth 100000
/-- the start: nothing live, no points -/
def jg_0 : jg_G := (fun _ => none, 0, fun _ _ => none, fun _ => 0, fun _ => false, 0)
abbrev wX0_0 (h : Nat) : va_W := [(h, .inr (0, [.null, .null, .null, .null, .null, .null, .null, .null, .null, .null, .null, .int 0, .int 0, .int 0]))]
set_option maxHeartbeats 4000000 in
theorem mX_init (l : Launch) (D : va_G) (h sz : Nat) : Met l yX0_init (ws_ yX0_init cX0_init 1 none) ({ frames := 1, cells := 11, slots := 366, locals := 12 }) (va_Pc [.ref h] (fun U => U.heap.size = sz ∧ va_P D vwCl (wX0_0 h) U.heap ∧ va_K D vwCl [] U ∧ va_D (fun _ => True) (wX0_0 h))) (va_Qv (fun u : (Nat → Nat) × (Nat → ClassId) × va_W => xw_R h u.1 u.2.1 jg_0 u.2.2) (fun u t => va_P D vwCl u.2.2 t.heap ∧ va_K D vwCl (tX u.2.1) t ∧ va_D (va_A (wX0_0 h) sz) u.2.2) (va_A (wX0_0 h) sz)) 11 366 (va_A (wX0_0 h) sz) := by
  refine Met.ofW (cc := cX0_init) (maxL := 1) (ret := none) (by decide) rfl ?_
  intro p e s m args below meth c s₁ B hml hv
  obtain ⟨rfl, hsz, hP, hK, hD0⟩ := hv
  have hx := B.exec
  have hb := B.bytes
  have hr := B.returns
  have hts := atoms_spec (ws := ws_ yX0_init cX0_init 1 none) B.pre
  have hts : ∀ w ∈ lw_all, w.before _ s = true := fun w h => hts w (List.mem_cons_of_mem _ h)
  have hown : s.vm.findClass RX0 = some m.cls := findClass_of_methodNamed B.named
  have hlocks := B.notSynchronized
  have hin : meth.name = "<init>" := (name_of_methodNamed B.named B.method).1
  subst hsz
  have hD := hD0.self (sz := s.heap.size)
  generalize hAe : va_A (wX0_0 h) s.heap.size = A at hD ⊢
  have hA : ∀ q : Nat, s.heap.size ≤ q → A q := fun q h => by rw [← hAe]; exact Or.inr h
  have hS : va_S A s.heap s.heap [] := va_S.rf
  have hl := lv_entry ([.ref h]) (n := 1) (Nat.le_of_ble_eq_true rfl)
  rw [lg_entry_eq]
  generalize (lg_sl ([.ref h]) ++ List.replicate (1 - (lg_sl ([.ref h])).length) Slot.unset).toArray = ls at hl ⊢
  have hl : lv_has ls 1 [(0, .ref h)] := hl
  have hP : va_P D vwCl [(h, .inr (0, [.null, .null, .null, .null, .null, .null, .null, .null, .null, .null, .null, .int 0, .int 0, .int 0]))] s.heap := hP
  refine lv_aload_n hx hb dX0_init_0 rfl (lv_at hl 0 rfl) ?_
  refine W.objInit hx hb hown (hts _ q26) (hts _ q27) (hts _ q28) rfl (by rw [hml]; exact hl.1) rfl dX0_init_1 (Nat.le_of_ble_eq_true rfl) (Nat.le_of_ble_eq_true rfl) ?_
  refine W.eq (g2 := F0 m 4 ls []) rfl ?_
  refine lv_aload_n hx hb dX0_init_4 rfl (lv_at hl 0 rfl) ?_
  refine lv_bipush (v := nI 16) hx hb dX0_init_5 (by decide) ?_
  refine va_newa (atype := .int) (ty := .int) (n := nI 16) (N' := 16) (a0 := (16, .inl (fun _ => 0))) hx hb (hts _ q72) rfl hK hP hD hS hA (fun cA => rfl) (by decide) (by decide) (by decide) (Nat.le_of_ble_eq_true rfl) (Nat.le_of_ble_eq_true rfl) dX0_init_7 (fun q0 c0 H hK hP hD hS => ?_)
  have hP : va_P D vwCl [(h, .inr (0, [.null, .null, .null, .null, .null, .null, .null, .null, .null, .null, .null, .int 0, .int 0, .int 0])), (q0, .inl (c0, 16, .inl (fun _ => 0)))] H := hP
  have hD : va_D A [(h, .inr (0, [.null, .null, .null, .null, .null, .null, .null, .null, .null, .null, .null, .int 0, .int 0, .int 0])), (q0, .inl (c0, 16, .inl (fun _ => 0)))] := hD
  have hK : va_K D vwCl [(c0, .int)] s := hK
  refine W.widen (k := 1) (n := 16) (Nat.le_refl _) (Nat.le_refl _) ?_
  refine va_putF (D := D) (ci := 0) (v := .ref q0) (ty := .array .int) (C := RX0) (T := TX0) (N := 14) hx hb hts in_X0 tyX0 tyX0_ok nmX0 hown hK hP hD hS 0 rfl rfl 0 (by decide) (hts _ q29) (fun _ h9 => h9) rfl hin rfl (by decide +kernel) rfl rfl (Nat.le_of_ble_eq_true rfl) dX0_init_9 (fun H locs hP hD hS => ?_)
  have hP : va_P D vwCl [(h, .inr (0, [.ref q0, .null, .null, .null, .null, .null, .null, .null, .null, .null, .null, .int 0, .int 0, .int 0])), (q0, .inl (c0, 16, .inl (fun _ => 0)))] H := hP
  have hD : va_D A [(h, .inr (0, [.ref q0, .null, .null, .null, .null, .null, .null, .null, .null, .null, .null, .int 0, .int 0, .int 0])), (q0, .inl (c0, 16, .inl (fun _ => 0)))] := hD
  refine lv_aload_n hx hb dX0_init_12 rfl (lv_at hl 0 rfl) ?_
  refine lv_bipush (v := nI 14) hx hb dX0_init_13 (by decide) ?_
  refine va_newa (atype := .int) (ty := .int) (n := nI 14) (N' := 14) (a0 := (14, .inl (fun i => nI ((fun _ => 0) i)))) hx hb (hts _ q72) rfl hK hP hD hS hA (fun cA => rfl) (by decide) (by decide) (by decide) (Nat.le_of_ble_eq_true rfl) (Nat.le_of_ble_eq_true rfl) dX0_init_15 (fun q1 c1 H hK hP hD hS => ?_)
  have hP : va_P D vwCl [(h, .inr (0, [.ref q0, .null, .null, .null, .null, .null, .null, .null, .null, .null, .null, .int 0, .int 0, .int 0])), (q0, .inl (c0, 16, .inl (fun _ => 0))), (q1, .inl (c1, 14, .inl (fun i => nI ((fun _ => 0) i))))] H := hP
  have hD : va_D A [(h, .inr (0, [.ref q0, .null, .null, .null, .null, .null, .null, .null, .null, .null, .null, .int 0, .int 0, .int 0])), (q0, .inl (c0, 16, .inl (fun _ => 0))), (q1, .inl (c1, 14, .inl (fun i => nI ((fun _ => 0) i))))] := hD
  have hK : va_K D vwCl [(c0, .int), (c1, .int)] s := hK
  refine W.widen (k := 2) (n := 30) (Nat.le_refl _) (Nat.le_refl _) ?_
  refine va_putF (D := D) (ci := 0) (v := .ref q1) (ty := .array .int) (C := RX0) (T := TX0) (N := 14) hx hb hts in_X0 tyX0 tyX0_ok nmX0 hown hK hP hD hS 0 rfl rfl 1 (by decide) (hts _ q30) (fun _ h9 => h9) rfl hin rfl (by decide +kernel) rfl rfl (Nat.le_of_ble_eq_true rfl) dX0_init_17 (fun H locs hP hD hS => ?_)
  have hP : va_P D vwCl [(h, .inr (0, [.ref q0, .ref q1, .null, .null, .null, .null, .null, .null, .null, .null, .null, .int 0, .int 0, .int 0])), (q0, .inl (c0, 16, .inl (fun _ => 0))), (q1, .inl (c1, 14, .inl (fun i => nI ((fun _ => 0) i))))] H := hP
  have hD : va_D A [(h, .inr (0, [.ref q0, .ref q1, .null, .null, .null, .null, .null, .null, .null, .null, .null, .int 0, .int 0, .int 0])), (q0, .inl (c0, 16, .inl (fun _ => 0))), (q1, .inl (c1, 14, .inl (fun i => nI ((fun _ => 0) i))))] := hD
  refine lv_aload_n hx hb dX0_init_20 rfl (lv_at hl 0 rfl) ?_
  refine lv_bipush (v := nI 14) hx hb dX0_init_21 (by decide) ?_
  refine va_newa (atype := .int) (ty := .int) (n := nI 14) (N' := 14) (a0 := (14, .inl (fun i => jp_o ((fun _ => some 0) i)))) hx hb (hts _ q72) rfl hK hP hD hS hA (fun cA => rfl) (by decide) (by decide) (by decide) (Nat.le_of_ble_eq_true rfl) (Nat.le_of_ble_eq_true rfl) dX0_init_23 (fun q2 c2 H hK hP hD hS => ?_)
  have hP : va_P D vwCl [(h, .inr (0, [.ref q0, .ref q1, .null, .null, .null, .null, .null, .null, .null, .null, .null, .int 0, .int 0, .int 0])), (q0, .inl (c0, 16, .inl (fun _ => 0))), (q1, .inl (c1, 14, .inl (fun i => nI ((fun _ => 0) i)))), (q2, .inl (c2, 14, .inl (fun i => jp_o ((fun _ => some 0) i))))] H := hP
  have hD : va_D A [(h, .inr (0, [.ref q0, .ref q1, .null, .null, .null, .null, .null, .null, .null, .null, .null, .int 0, .int 0, .int 0])), (q0, .inl (c0, 16, .inl (fun _ => 0))), (q1, .inl (c1, 14, .inl (fun i => nI ((fun _ => 0) i)))), (q2, .inl (c2, 14, .inl (fun i => jp_o ((fun _ => some 0) i))))] := hD
  have hK : va_K D vwCl [(c0, .int), (c1, .int), (c2, .int)] s := hK
  refine W.widen (k := 3) (n := 44) (Nat.le_refl _) (Nat.le_refl _) ?_
  refine va_putF (D := D) (ci := 0) (v := .ref q2) (ty := .array .int) (C := RX0) (T := TX0) (N := 14) hx hb hts in_X0 tyX0 tyX0_ok nmX0 hown hK hP hD hS 0 rfl rfl 2 (by decide) (hts _ q31) (fun _ h9 => h9) rfl hin rfl (by decide +kernel) rfl rfl (Nat.le_of_ble_eq_true rfl) dX0_init_25 (fun H locs hP hD hS => ?_)
  have hP : va_P D vwCl [(h, .inr (0, [.ref q0, .ref q1, .ref q2, .null, .null, .null, .null, .null, .null, .null, .null, .int 0, .int 0, .int 0])), (q0, .inl (c0, 16, .inl (fun _ => 0))), (q1, .inl (c1, 14, .inl (fun i => nI ((fun _ => 0) i)))), (q2, .inl (c2, 14, .inl (fun i => jp_o ((fun _ => some 0) i))))] H := hP
  have hD : va_D A [(h, .inr (0, [.ref q0, .ref q1, .ref q2, .null, .null, .null, .null, .null, .null, .null, .null, .int 0, .int 0, .int 0])), (q0, .inl (c0, 16, .inl (fun _ => 0))), (q1, .inl (c1, 14, .inl (fun i => nI ((fun _ => 0) i)))), (q2, .inl (c2, 14, .inl (fun i => jp_o ((fun _ => some 0) i))))] := hD
  refine lv_aload_n hx hb dX0_init_28 rfl (lv_at hl 0 rfl) ?_
  refine lv_bipush (v := nI 14) hx hb dX0_init_29 (by decide) ?_
  refine va_newa (atype := .int) (ty := .int) (n := nI 14) (N' := 14) (a0 := (14, .inl (fun _ => 0))) hx hb (hts _ q72) rfl hK hP hD hS hA (fun cA => rfl) (by decide) (by decide) (by decide) (Nat.le_of_ble_eq_true rfl) (Nat.le_of_ble_eq_true rfl) dX0_init_31 (fun q3 c3 H hK hP hD hS => ?_)
  have hP : va_P D vwCl [(h, .inr (0, [.ref q0, .ref q1, .ref q2, .null, .null, .null, .null, .null, .null, .null, .null, .int 0, .int 0, .int 0])), (q0, .inl (c0, 16, .inl (fun _ => 0))), (q1, .inl (c1, 14, .inl (fun i => nI ((fun _ => 0) i)))), (q2, .inl (c2, 14, .inl (fun i => jp_o ((fun _ => some 0) i)))), (q3, .inl (c3, 14, .inl (fun _ => 0)))] H := hP
  have hD : va_D A [(h, .inr (0, [.ref q0, .ref q1, .ref q2, .null, .null, .null, .null, .null, .null, .null, .null, .int 0, .int 0, .int 0])), (q0, .inl (c0, 16, .inl (fun _ => 0))), (q1, .inl (c1, 14, .inl (fun i => nI ((fun _ => 0) i)))), (q2, .inl (c2, 14, .inl (fun i => jp_o ((fun _ => some 0) i)))), (q3, .inl (c3, 14, .inl (fun _ => 0)))] := hD
  have hK : va_K D vwCl [(c0, .int), (c1, .int), (c2, .int), (c3, .int)] s := hK
  refine W.widen (k := 4) (n := 58) (Nat.le_refl _) (Nat.le_refl _) ?_
  refine va_putF (D := D) (ci := 0) (v := .ref q3) (ty := .array .int) (C := RX0) (T := TX0) (N := 14) hx hb hts in_X0 tyX0 tyX0_ok nmX0 hown hK hP hD hS 0 rfl rfl 3 (by decide) (hts _ q32) (fun _ h9 => h9) rfl hin rfl (by decide +kernel) rfl rfl (Nat.le_of_ble_eq_true rfl) dX0_init_33 (fun H locs hP hD hS => ?_)
  have hP : va_P D vwCl [(h, .inr (0, [.ref q0, .ref q1, .ref q2, .ref q3, .null, .null, .null, .null, .null, .null, .null, .int 0, .int 0, .int 0])), (q0, .inl (c0, 16, .inl (fun _ => 0))), (q1, .inl (c1, 14, .inl (fun i => nI ((fun _ => 0) i)))), (q2, .inl (c2, 14, .inl (fun i => jp_o ((fun _ => some 0) i)))), (q3, .inl (c3, 14, .inl (fun _ => 0)))] H := hP
  have hD : va_D A [(h, .inr (0, [.ref q0, .ref q1, .ref q2, .ref q3, .null, .null, .null, .null, .null, .null, .null, .int 0, .int 0, .int 0])), (q0, .inl (c0, 16, .inl (fun _ => 0))), (q1, .inl (c1, 14, .inl (fun i => nI ((fun _ => 0) i)))), (q2, .inl (c2, 14, .inl (fun i => jp_o ((fun _ => some 0) i)))), (q3, .inl (c3, 14, .inl (fun _ => 0)))] := hD
  refine lv_aload_n hx hb dX0_init_36 rfl (lv_at hl 0 rfl) ?_
  refine lv_bipush (v := nI 14) hx hb dX0_init_37 (by decide) ?_
  refine va_newa (atype := .int) (ty := .int) (n := nI 14) (N' := 14) (a0 := (14, .inl (fun _ => 0))) hx hb (hts _ q72) rfl hK hP hD hS hA (fun cA => rfl) (by decide) (by decide) (by decide) (Nat.le_of_ble_eq_true rfl) (Nat.le_of_ble_eq_true rfl) dX0_init_39 (fun q4 c4 H hK hP hD hS => ?_)
  have hP : va_P D vwCl [(h, .inr (0, [.ref q0, .ref q1, .ref q2, .ref q3, .null, .null, .null, .null, .null, .null, .null, .int 0, .int 0, .int 0])), (q0, .inl (c0, 16, .inl (fun _ => 0))), (q1, .inl (c1, 14, .inl (fun i => nI ((fun _ => 0) i)))), (q2, .inl (c2, 14, .inl (fun i => jp_o ((fun _ => some 0) i)))), (q3, .inl (c3, 14, .inl (fun _ => 0))), (q4, .inl (c4, 14, .inl (fun _ => 0)))] H := hP
  have hD : va_D A [(h, .inr (0, [.ref q0, .ref q1, .ref q2, .ref q3, .null, .null, .null, .null, .null, .null, .null, .int 0, .int 0, .int 0])), (q0, .inl (c0, 16, .inl (fun _ => 0))), (q1, .inl (c1, 14, .inl (fun i => nI ((fun _ => 0) i)))), (q2, .inl (c2, 14, .inl (fun i => jp_o ((fun _ => some 0) i)))), (q3, .inl (c3, 14, .inl (fun _ => 0))), (q4, .inl (c4, 14, .inl (fun _ => 0)))] := hD
  have hK : va_K D vwCl [(c0, .int), (c1, .int), (c2, .int), (c3, .int), (c4, .int)] s := hK
  refine W.widen (k := 5) (n := 72) (Nat.le_refl _) (Nat.le_refl _) ?_
  refine va_putF (D := D) (ci := 0) (v := .ref q4) (ty := .array .int) (C := RX0) (T := TX0) (N := 14) hx hb hts in_X0 tyX0 tyX0_ok nmX0 hown hK hP hD hS 0 rfl rfl 4 (by decide) (hts _ q33) (fun _ h9 => h9) rfl hin rfl (by decide +kernel) rfl rfl (Nat.le_of_ble_eq_true rfl) dX0_init_41 (fun H locs hP hD hS => ?_)
  have hP : va_P D vwCl [(h, .inr (0, [.ref q0, .ref q1, .ref q2, .ref q3, .ref q4, .null, .null, .null, .null, .null, .null, .int 0, .int 0, .int 0])), (q0, .inl (c0, 16, .inl (fun _ => 0))), (q1, .inl (c1, 14, .inl (fun i => nI ((fun _ => 0) i)))), (q2, .inl (c2, 14, .inl (fun i => jp_o ((fun _ => some 0) i)))), (q3, .inl (c3, 14, .inl (fun _ => 0))), (q4, .inl (c4, 14, .inl (fun _ => 0)))] H := hP
  have hD : va_D A [(h, .inr (0, [.ref q0, .ref q1, .ref q2, .ref q3, .ref q4, .null, .null, .null, .null, .null, .null, .int 0, .int 0, .int 0])), (q0, .inl (c0, 16, .inl (fun _ => 0))), (q1, .inl (c1, 14, .inl (fun i => nI ((fun _ => 0) i)))), (q2, .inl (c2, 14, .inl (fun i => jp_o ((fun _ => some 0) i)))), (q3, .inl (c3, 14, .inl (fun _ => 0))), (q4, .inl (c4, 14, .inl (fun _ => 0)))] := hD
  refine lv_aload_n hx hb dX0_init_44 rfl (lv_at hl 0 rfl) ?_
  refine lv_sipush (v := nI 224) hx hb dX0_init_45 (by decide) ?_
  refine va_newa (atype := .int) (ty := .int) (n := nI 224) (N' := 224) (a0 := (224, .inl (fun _ => 0))) hx hb (hts _ q72) rfl hK hP hD hS hA (fun cA => rfl) (by decide) (by decide) (by decide) (Nat.le_of_ble_eq_true rfl) (Nat.le_of_ble_eq_true rfl) dX0_init_48 (fun q5 c5 H hK hP hD hS => ?_)
  have hP : va_P D vwCl [(h, .inr (0, [.ref q0, .ref q1, .ref q2, .ref q3, .ref q4, .null, .null, .null, .null, .null, .null, .int 0, .int 0, .int 0])), (q0, .inl (c0, 16, .inl (fun _ => 0))), (q1, .inl (c1, 14, .inl (fun i => nI ((fun _ => 0) i)))), (q2, .inl (c2, 14, .inl (fun i => jp_o ((fun _ => some 0) i)))), (q3, .inl (c3, 14, .inl (fun _ => 0))), (q4, .inl (c4, 14, .inl (fun _ => 0))), (q5, .inl (c5, 224, .inl (fun _ => 0)))] H := hP
  have hD : va_D A [(h, .inr (0, [.ref q0, .ref q1, .ref q2, .ref q3, .ref q4, .null, .null, .null, .null, .null, .null, .int 0, .int 0, .int 0])), (q0, .inl (c0, 16, .inl (fun _ => 0))), (q1, .inl (c1, 14, .inl (fun i => nI ((fun _ => 0) i)))), (q2, .inl (c2, 14, .inl (fun i => jp_o ((fun _ => some 0) i)))), (q3, .inl (c3, 14, .inl (fun _ => 0))), (q4, .inl (c4, 14, .inl (fun _ => 0))), (q5, .inl (c5, 224, .inl (fun _ => 0)))] := hD
  have hK : va_K D vwCl [(c0, .int), (c1, .int), (c2, .int), (c3, .int), (c4, .int), (c5, .int)] s := hK
  refine W.widen (k := 6) (n := 296) (Nat.le_refl _) (Nat.le_refl _) ?_
  refine va_putF (D := D) (ci := 0) (v := .ref q5) (ty := .array .int) (C := RX0) (T := TX0) (N := 14) hx hb hts in_X0 tyX0 tyX0_ok nmX0 hown hK hP hD hS 0 rfl rfl 5 (by decide) (hts _ q34) (fun _ h9 => h9) rfl hin rfl (by decide +kernel) rfl rfl (Nat.le_of_ble_eq_true rfl) dX0_init_50 (fun H locs hP hD hS => ?_)
  have hP : va_P D vwCl [(h, .inr (0, [.ref q0, .ref q1, .ref q2, .ref q3, .ref q4, .ref q5, .null, .null, .null, .null, .null, .int 0, .int 0, .int 0])), (q0, .inl (c0, 16, .inl (fun _ => 0))), (q1, .inl (c1, 14, .inl (fun i => nI ((fun _ => 0) i)))), (q2, .inl (c2, 14, .inl (fun i => jp_o ((fun _ => some 0) i)))), (q3, .inl (c3, 14, .inl (fun _ => 0))), (q4, .inl (c4, 14, .inl (fun _ => 0))), (q5, .inl (c5, 224, .inl (fun _ => 0)))] H := hP
  have hD : va_D A [(h, .inr (0, [.ref q0, .ref q1, .ref q2, .ref q3, .ref q4, .ref q5, .null, .null, .null, .null, .null, .int 0, .int 0, .int 0])), (q0, .inl (c0, 16, .inl (fun _ => 0))), (q1, .inl (c1, 14, .inl (fun i => nI ((fun _ => 0) i)))), (q2, .inl (c2, 14, .inl (fun i => jp_o ((fun _ => some 0) i)))), (q3, .inl (c3, 14, .inl (fun _ => 0))), (q4, .inl (c4, 14, .inl (fun _ => 0))), (q5, .inl (c5, 224, .inl (fun _ => 0)))] := hD
  refine lv_aload_n hx hb dX0_init_53 rfl (lv_at hl 0 rfl) ?_
  refine lv_bipush (v := nI 14) hx hb dX0_init_54 (by decide) ?_
  refine va_newa (atype := .int) (ty := .int) (n := nI 14) (N' := 14) (a0 := (14, .inl (fun i => nI ((fun _ => 0) i)))) hx hb (hts _ q72) rfl hK hP hD hS hA (fun cA => rfl) (by decide) (by decide) (by decide) (Nat.le_of_ble_eq_true rfl) (Nat.le_of_ble_eq_true rfl) dX0_init_56 (fun q6 c6 H hK hP hD hS => ?_)
  have hP : va_P D vwCl [(h, .inr (0, [.ref q0, .ref q1, .ref q2, .ref q3, .ref q4, .ref q5, .null, .null, .null, .null, .null, .int 0, .int 0, .int 0])), (q0, .inl (c0, 16, .inl (fun _ => 0))), (q1, .inl (c1, 14, .inl (fun i => nI ((fun _ => 0) i)))), (q2, .inl (c2, 14, .inl (fun i => jp_o ((fun _ => some 0) i)))), (q3, .inl (c3, 14, .inl (fun _ => 0))), (q4, .inl (c4, 14, .inl (fun _ => 0))), (q5, .inl (c5, 224, .inl (fun _ => 0))), (q6, .inl (c6, 14, .inl (fun i => nI ((fun _ => 0) i))))] H := hP
  have hD : va_D A [(h, .inr (0, [.ref q0, .ref q1, .ref q2, .ref q3, .ref q4, .ref q5, .null, .null, .null, .null, .null, .int 0, .int 0, .int 0])), (q0, .inl (c0, 16, .inl (fun _ => 0))), (q1, .inl (c1, 14, .inl (fun i => nI ((fun _ => 0) i)))), (q2, .inl (c2, 14, .inl (fun i => jp_o ((fun _ => some 0) i)))), (q3, .inl (c3, 14, .inl (fun _ => 0))), (q4, .inl (c4, 14, .inl (fun _ => 0))), (q5, .inl (c5, 224, .inl (fun _ => 0))), (q6, .inl (c6, 14, .inl (fun i => nI ((fun _ => 0) i))))] := hD
  have hK : va_K D vwCl [(c0, .int), (c1, .int), (c2, .int), (c3, .int), (c4, .int), (c5, .int), (c6, .int)] s := hK
  refine W.widen (k := 7) (n := 310) (Nat.le_refl _) (Nat.le_refl _) ?_
  refine va_putF (D := D) (ci := 0) (v := .ref q6) (ty := .array .int) (C := RX0) (T := TX0) (N := 14) hx hb hts in_X0 tyX0 tyX0_ok nmX0 hown hK hP hD hS 0 rfl rfl 6 (by decide) (hts _ q35) (fun _ h9 => h9) rfl hin rfl (by decide +kernel) rfl rfl (Nat.le_of_ble_eq_true rfl) dX0_init_58 (fun H locs hP hD hS => ?_)
  have hP : va_P D vwCl [(h, .inr (0, [.ref q0, .ref q1, .ref q2, .ref q3, .ref q4, .ref q5, .ref q6, .null, .null, .null, .null, .int 0, .int 0, .int 0])), (q0, .inl (c0, 16, .inl (fun _ => 0))), (q1, .inl (c1, 14, .inl (fun i => nI ((fun _ => 0) i)))), (q2, .inl (c2, 14, .inl (fun i => jp_o ((fun _ => some 0) i)))), (q3, .inl (c3, 14, .inl (fun _ => 0))), (q4, .inl (c4, 14, .inl (fun _ => 0))), (q5, .inl (c5, 224, .inl (fun _ => 0))), (q6, .inl (c6, 14, .inl (fun i => nI ((fun _ => 0) i))))] H := hP
  have hD : va_D A [(h, .inr (0, [.ref q0, .ref q1, .ref q2, .ref q3, .ref q4, .ref q5, .ref q6, .null, .null, .null, .null, .int 0, .int 0, .int 0])), (q0, .inl (c0, 16, .inl (fun _ => 0))), (q1, .inl (c1, 14, .inl (fun i => nI ((fun _ => 0) i)))), (q2, .inl (c2, 14, .inl (fun i => jp_o ((fun _ => some 0) i)))), (q3, .inl (c3, 14, .inl (fun _ => 0))), (q4, .inl (c4, 14, .inl (fun _ => 0))), (q5, .inl (c5, 224, .inl (fun _ => 0))), (q6, .inl (c6, 14, .inl (fun i => nI ((fun _ => 0) i))))] := hD
  refine lv_aload_n hx hb dX0_init_61 rfl (lv_at hl 0 rfl) ?_
  refine lv_bipush (v := nI 14) hx hb dX0_init_62 (by decide) ?_
  refine va_newa (atype := .boolean) (ty := .boolean) (n := nI 14) (N' := 14) (a0 := (14, .inl (fun i => jp_b ((fun _ => false) i)))) hx hb (hts _ q73) rfl hK hP hD hS hA (fun cA => rfl) (by decide) (by decide) (by decide) (Nat.le_of_ble_eq_true rfl) (Nat.le_of_ble_eq_true rfl) dX0_init_64 (fun q7 c7 H hK hP hD hS => ?_)
  have hP : va_P D vwCl [(h, .inr (0, [.ref q0, .ref q1, .ref q2, .ref q3, .ref q4, .ref q5, .ref q6, .null, .null, .null, .null, .int 0, .int 0, .int 0])), (q0, .inl (c0, 16, .inl (fun _ => 0))), (q1, .inl (c1, 14, .inl (fun i => nI ((fun _ => 0) i)))), (q2, .inl (c2, 14, .inl (fun i => jp_o ((fun _ => some 0) i)))), (q3, .inl (c3, 14, .inl (fun _ => 0))), (q4, .inl (c4, 14, .inl (fun _ => 0))), (q5, .inl (c5, 224, .inl (fun _ => 0))), (q6, .inl (c6, 14, .inl (fun i => nI ((fun _ => 0) i)))), (q7, .inl (c7, 14, .inl (fun i => jp_b ((fun _ => false) i))))] H := hP
  have hD : va_D A [(h, .inr (0, [.ref q0, .ref q1, .ref q2, .ref q3, .ref q4, .ref q5, .ref q6, .null, .null, .null, .null, .int 0, .int 0, .int 0])), (q0, .inl (c0, 16, .inl (fun _ => 0))), (q1, .inl (c1, 14, .inl (fun i => nI ((fun _ => 0) i)))), (q2, .inl (c2, 14, .inl (fun i => jp_o ((fun _ => some 0) i)))), (q3, .inl (c3, 14, .inl (fun _ => 0))), (q4, .inl (c4, 14, .inl (fun _ => 0))), (q5, .inl (c5, 224, .inl (fun _ => 0))), (q6, .inl (c6, 14, .inl (fun i => nI ((fun _ => 0) i)))), (q7, .inl (c7, 14, .inl (fun i => jp_b ((fun _ => false) i))))] := hD
  have hK : va_K D vwCl [(c0, .int), (c1, .int), (c2, .int), (c3, .int), (c4, .int), (c5, .int), (c6, .int), (c7, .boolean)] s := hK
  refine W.widen (k := 8) (n := 324) (Nat.le_refl _) (Nat.le_refl _) ?_
  refine va_putF (D := D) (ci := 0) (v := .ref q7) (ty := .array .boolean) (C := RX0) (T := TX0) (N := 14) hx hb hts in_X0 tyX0 tyX0_ok nmX0 hown hK hP hD hS 0 rfl rfl 7 (by decide) (hts _ q36) (fun _ h9 => h9) rfl hin rfl (by decide +kernel) rfl rfl (Nat.le_of_ble_eq_true rfl) dX0_init_66 (fun H locs hP hD hS => ?_)
  have hP : va_P D vwCl [(h, .inr (0, [.ref q0, .ref q1, .ref q2, .ref q3, .ref q4, .ref q5, .ref q6, .ref q7, .null, .null, .null, .int 0, .int 0, .int 0])), (q0, .inl (c0, 16, .inl (fun _ => 0))), (q1, .inl (c1, 14, .inl (fun i => nI ((fun _ => 0) i)))), (q2, .inl (c2, 14, .inl (fun i => jp_o ((fun _ => some 0) i)))), (q3, .inl (c3, 14, .inl (fun _ => 0))), (q4, .inl (c4, 14, .inl (fun _ => 0))), (q5, .inl (c5, 224, .inl (fun _ => 0))), (q6, .inl (c6, 14, .inl (fun i => nI ((fun _ => 0) i)))), (q7, .inl (c7, 14, .inl (fun i => jp_b ((fun _ => false) i))))] H := hP
  have hD : va_D A [(h, .inr (0, [.ref q0, .ref q1, .ref q2, .ref q3, .ref q4, .ref q5, .ref q6, .ref q7, .null, .null, .null, .int 0, .int 0, .int 0])), (q0, .inl (c0, 16, .inl (fun _ => 0))), (q1, .inl (c1, 14, .inl (fun i => nI ((fun _ => 0) i)))), (q2, .inl (c2, 14, .inl (fun i => jp_o ((fun _ => some 0) i)))), (q3, .inl (c3, 14, .inl (fun _ => 0))), (q4, .inl (c4, 14, .inl (fun _ => 0))), (q5, .inl (c5, 224, .inl (fun _ => 0))), (q6, .inl (c6, 14, .inl (fun i => nI ((fun _ => 0) i)))), (q7, .inl (c7, 14, .inl (fun i => jp_b ((fun _ => false) i))))] := hD
  refine lv_aload_n hx hb dX0_init_69 rfl (lv_at hl 0 rfl) ?_
  refine lv_bipush (v := nI 14) hx hb dX0_init_70 (by decide) ?_
  refine va_newa (atype := .int) (ty := .int) (n := nI 14) (N' := 14) (a0 := (14, .inl (fun _ => 0))) hx hb (hts _ q72) rfl hK hP hD hS hA (fun cA => rfl) (by decide) (by decide) (by decide) (Nat.le_of_ble_eq_true rfl) (Nat.le_of_ble_eq_true rfl) dX0_init_72 (fun q8 c8 H hK hP hD hS => ?_)
  have hP : va_P D vwCl [(h, .inr (0, [.ref q0, .ref q1, .ref q2, .ref q3, .ref q4, .ref q5, .ref q6, .ref q7, .null, .null, .null, .int 0, .int 0, .int 0])), (q0, .inl (c0, 16, .inl (fun _ => 0))), (q1, .inl (c1, 14, .inl (fun i => nI ((fun _ => 0) i)))), (q2, .inl (c2, 14, .inl (fun i => jp_o ((fun _ => some 0) i)))), (q3, .inl (c3, 14, .inl (fun _ => 0))), (q4, .inl (c4, 14, .inl (fun _ => 0))), (q5, .inl (c5, 224, .inl (fun _ => 0))), (q6, .inl (c6, 14, .inl (fun i => nI ((fun _ => 0) i)))), (q7, .inl (c7, 14, .inl (fun i => jp_b ((fun _ => false) i)))), (q8, .inl (c8, 14, .inl (fun _ => 0)))] H := hP
  have hD : va_D A [(h, .inr (0, [.ref q0, .ref q1, .ref q2, .ref q3, .ref q4, .ref q5, .ref q6, .ref q7, .null, .null, .null, .int 0, .int 0, .int 0])), (q0, .inl (c0, 16, .inl (fun _ => 0))), (q1, .inl (c1, 14, .inl (fun i => nI ((fun _ => 0) i)))), (q2, .inl (c2, 14, .inl (fun i => jp_o ((fun _ => some 0) i)))), (q3, .inl (c3, 14, .inl (fun _ => 0))), (q4, .inl (c4, 14, .inl (fun _ => 0))), (q5, .inl (c5, 224, .inl (fun _ => 0))), (q6, .inl (c6, 14, .inl (fun i => nI ((fun _ => 0) i)))), (q7, .inl (c7, 14, .inl (fun i => jp_b ((fun _ => false) i)))), (q8, .inl (c8, 14, .inl (fun _ => 0)))] := hD
  have hK : va_K D vwCl [(c0, .int), (c1, .int), (c2, .int), (c3, .int), (c4, .int), (c5, .int), (c6, .int), (c7, .boolean), (c8, .int)] s := hK
  refine W.widen (k := 9) (n := 338) (Nat.le_refl _) (Nat.le_refl _) ?_
  refine va_putF (D := D) (ci := 0) (v := .ref q8) (ty := .array .int) (C := RX0) (T := TX0) (N := 14) hx hb hts in_X0 tyX0 tyX0_ok nmX0 hown hK hP hD hS 0 rfl rfl 8 (by decide) (hts _ q37) (fun _ h9 => h9) rfl hin rfl (by decide +kernel) rfl rfl (Nat.le_of_ble_eq_true rfl) dX0_init_74 (fun H locs hP hD hS => ?_)
  have hP : va_P D vwCl [(h, .inr (0, [.ref q0, .ref q1, .ref q2, .ref q3, .ref q4, .ref q5, .ref q6, .ref q7, .ref q8, .null, .null, .int 0, .int 0, .int 0])), (q0, .inl (c0, 16, .inl (fun _ => 0))), (q1, .inl (c1, 14, .inl (fun i => nI ((fun _ => 0) i)))), (q2, .inl (c2, 14, .inl (fun i => jp_o ((fun _ => some 0) i)))), (q3, .inl (c3, 14, .inl (fun _ => 0))), (q4, .inl (c4, 14, .inl (fun _ => 0))), (q5, .inl (c5, 224, .inl (fun _ => 0))), (q6, .inl (c6, 14, .inl (fun i => nI ((fun _ => 0) i)))), (q7, .inl (c7, 14, .inl (fun i => jp_b ((fun _ => false) i)))), (q8, .inl (c8, 14, .inl (fun _ => 0)))] H := hP
  have hD : va_D A [(h, .inr (0, [.ref q0, .ref q1, .ref q2, .ref q3, .ref q4, .ref q5, .ref q6, .ref q7, .ref q8, .null, .null, .int 0, .int 0, .int 0])), (q0, .inl (c0, 16, .inl (fun _ => 0))), (q1, .inl (c1, 14, .inl (fun i => nI ((fun _ => 0) i)))), (q2, .inl (c2, 14, .inl (fun i => jp_o ((fun _ => some 0) i)))), (q3, .inl (c3, 14, .inl (fun _ => 0))), (q4, .inl (c4, 14, .inl (fun _ => 0))), (q5, .inl (c5, 224, .inl (fun _ => 0))), (q6, .inl (c6, 14, .inl (fun i => nI ((fun _ => 0) i)))), (q7, .inl (c7, 14, .inl (fun i => jp_b ((fun _ => false) i)))), (q8, .inl (c8, 14, .inl (fun _ => 0)))] := hD
  refine lv_aload_n hx hb dX0_init_77 rfl (lv_at hl 0 rfl) ?_
  refine lv_bipush (v := nI 14) hx hb dX0_init_78 (by decide) ?_
  refine va_newa (atype := .boolean) (ty := .boolean) (n := nI 14) (N' := 14) (a0 := (14, .inl (fun i => jp_b ((fun _ => false) i)))) hx hb (hts _ q73) rfl hK hP hD hS hA (fun cA => rfl) (by decide) (by decide) (by decide) (Nat.le_of_ble_eq_true rfl) (Nat.le_of_ble_eq_true rfl) dX0_init_80 (fun q9 c9 H hK hP hD hS => ?_)
  have hP : va_P D vwCl [(h, .inr (0, [.ref q0, .ref q1, .ref q2, .ref q3, .ref q4, .ref q5, .ref q6, .ref q7, .ref q8, .null, .null, .int 0, .int 0, .int 0])), (q0, .inl (c0, 16, .inl (fun _ => 0))), (q1, .inl (c1, 14, .inl (fun i => nI ((fun _ => 0) i)))), (q2, .inl (c2, 14, .inl (fun i => jp_o ((fun _ => some 0) i)))), (q3, .inl (c3, 14, .inl (fun _ => 0))), (q4, .inl (c4, 14, .inl (fun _ => 0))), (q5, .inl (c5, 224, .inl (fun _ => 0))), (q6, .inl (c6, 14, .inl (fun i => nI ((fun _ => 0) i)))), (q7, .inl (c7, 14, .inl (fun i => jp_b ((fun _ => false) i)))), (q8, .inl (c8, 14, .inl (fun _ => 0))), (q9, .inl (c9, 14, .inl (fun i => jp_b ((fun _ => false) i))))] H := hP
  have hD : va_D A [(h, .inr (0, [.ref q0, .ref q1, .ref q2, .ref q3, .ref q4, .ref q5, .ref q6, .ref q7, .ref q8, .null, .null, .int 0, .int 0, .int 0])), (q0, .inl (c0, 16, .inl (fun _ => 0))), (q1, .inl (c1, 14, .inl (fun i => nI ((fun _ => 0) i)))), (q2, .inl (c2, 14, .inl (fun i => jp_o ((fun _ => some 0) i)))), (q3, .inl (c3, 14, .inl (fun _ => 0))), (q4, .inl (c4, 14, .inl (fun _ => 0))), (q5, .inl (c5, 224, .inl (fun _ => 0))), (q6, .inl (c6, 14, .inl (fun i => nI ((fun _ => 0) i)))), (q7, .inl (c7, 14, .inl (fun i => jp_b ((fun _ => false) i)))), (q8, .inl (c8, 14, .inl (fun _ => 0))), (q9, .inl (c9, 14, .inl (fun i => jp_b ((fun _ => false) i))))] := hD
  have hK : va_K D vwCl [(c0, .int), (c1, .int), (c2, .int), (c3, .int), (c4, .int), (c5, .int), (c6, .int), (c7, .boolean), (c8, .int), (c9, .boolean)] s := hK
  refine W.widen (k := 10) (n := 352) (Nat.le_refl _) (Nat.le_refl _) ?_
  refine va_putF (D := D) (ci := 0) (v := .ref q9) (ty := .array .boolean) (C := RX0) (T := TX0) (N := 14) hx hb hts in_X0 tyX0 tyX0_ok nmX0 hown hK hP hD hS 0 rfl rfl 9 (by decide) (hts _ q38) (fun _ h9 => h9) rfl hin rfl (by decide +kernel) rfl rfl (Nat.le_of_ble_eq_true rfl) dX0_init_82 (fun H locs hP hD hS => ?_)
  have hP : va_P D vwCl [(h, .inr (0, [.ref q0, .ref q1, .ref q2, .ref q3, .ref q4, .ref q5, .ref q6, .ref q7, .ref q8, .ref q9, .null, .int 0, .int 0, .int 0])), (q0, .inl (c0, 16, .inl (fun _ => 0))), (q1, .inl (c1, 14, .inl (fun i => nI ((fun _ => 0) i)))), (q2, .inl (c2, 14, .inl (fun i => jp_o ((fun _ => some 0) i)))), (q3, .inl (c3, 14, .inl (fun _ => 0))), (q4, .inl (c4, 14, .inl (fun _ => 0))), (q5, .inl (c5, 224, .inl (fun _ => 0))), (q6, .inl (c6, 14, .inl (fun i => nI ((fun _ => 0) i)))), (q7, .inl (c7, 14, .inl (fun i => jp_b ((fun _ => false) i)))), (q8, .inl (c8, 14, .inl (fun _ => 0))), (q9, .inl (c9, 14, .inl (fun i => jp_b ((fun _ => false) i))))] H := hP
  have hD : va_D A [(h, .inr (0, [.ref q0, .ref q1, .ref q2, .ref q3, .ref q4, .ref q5, .ref q6, .ref q7, .ref q8, .ref q9, .null, .int 0, .int 0, .int 0])), (q0, .inl (c0, 16, .inl (fun _ => 0))), (q1, .inl (c1, 14, .inl (fun i => nI ((fun _ => 0) i)))), (q2, .inl (c2, 14, .inl (fun i => jp_o ((fun _ => some 0) i)))), (q3, .inl (c3, 14, .inl (fun _ => 0))), (q4, .inl (c4, 14, .inl (fun _ => 0))), (q5, .inl (c5, 224, .inl (fun _ => 0))), (q6, .inl (c6, 14, .inl (fun i => nI ((fun _ => 0) i)))), (q7, .inl (c7, 14, .inl (fun i => jp_b ((fun _ => false) i)))), (q8, .inl (c8, 14, .inl (fun _ => 0))), (q9, .inl (c9, 14, .inl (fun i => jp_b ((fun _ => false) i))))] := hD
  refine lv_aload_n hx hb dX0_init_85 rfl (lv_at hl 0 rfl) ?_
  refine lv_bipush (v := nI 14) hx hb dX0_init_86 (by decide) ?_
  refine va_newa (atype := .boolean) (ty := .boolean) (n := nI 14) (N' := 14) (a0 := (14, .inl (fun i => jp_b ((fun _ => false) i)))) hx hb (hts _ q73) rfl hK hP hD hS hA (fun cA => rfl) (by decide) (by decide) (by decide) (Nat.le_of_ble_eq_true rfl) (Nat.le_of_ble_eq_true rfl) dX0_init_88 (fun q10 c10 H hK hP hD hS => ?_)
  have hP : va_P D vwCl [(h, .inr (0, [.ref q0, .ref q1, .ref q2, .ref q3, .ref q4, .ref q5, .ref q6, .ref q7, .ref q8, .ref q9, .null, .int 0, .int 0, .int 0])), (q0, .inl (c0, 16, .inl (fun _ => 0))), (q1, .inl (c1, 14, .inl (fun i => nI ((fun _ => 0) i)))), (q2, .inl (c2, 14, .inl (fun i => jp_o ((fun _ => some 0) i)))), (q3, .inl (c3, 14, .inl (fun _ => 0))), (q4, .inl (c4, 14, .inl (fun _ => 0))), (q5, .inl (c5, 224, .inl (fun _ => 0))), (q6, .inl (c6, 14, .inl (fun i => nI ((fun _ => 0) i)))), (q7, .inl (c7, 14, .inl (fun i => jp_b ((fun _ => false) i)))), (q8, .inl (c8, 14, .inl (fun _ => 0))), (q9, .inl (c9, 14, .inl (fun i => jp_b ((fun _ => false) i)))), (q10, .inl (c10, 14, .inl (fun i => jp_b ((fun _ => false) i))))] H := hP
  have hD : va_D A [(h, .inr (0, [.ref q0, .ref q1, .ref q2, .ref q3, .ref q4, .ref q5, .ref q6, .ref q7, .ref q8, .ref q9, .null, .int 0, .int 0, .int 0])), (q0, .inl (c0, 16, .inl (fun _ => 0))), (q1, .inl (c1, 14, .inl (fun i => nI ((fun _ => 0) i)))), (q2, .inl (c2, 14, .inl (fun i => jp_o ((fun _ => some 0) i)))), (q3, .inl (c3, 14, .inl (fun _ => 0))), (q4, .inl (c4, 14, .inl (fun _ => 0))), (q5, .inl (c5, 224, .inl (fun _ => 0))), (q6, .inl (c6, 14, .inl (fun i => nI ((fun _ => 0) i)))), (q7, .inl (c7, 14, .inl (fun i => jp_b ((fun _ => false) i)))), (q8, .inl (c8, 14, .inl (fun _ => 0))), (q9, .inl (c9, 14, .inl (fun i => jp_b ((fun _ => false) i)))), (q10, .inl (c10, 14, .inl (fun i => jp_b ((fun _ => false) i))))] := hD
  have hK : va_K D vwCl [(c0, .int), (c1, .int), (c2, .int), (c3, .int), (c4, .int), (c5, .int), (c6, .int), (c7, .boolean), (c8, .int), (c9, .boolean), (c10, .boolean)] s := hK
  refine W.widen (k := 11) (n := 366) (Nat.le_refl _) (Nat.le_refl _) ?_
  refine va_putF (D := D) (ci := 0) (v := .ref q10) (ty := .array .boolean) (C := RX0) (T := TX0) (N := 14) hx hb hts in_X0 tyX0 tyX0_ok nmX0 hown hK hP hD hS 0 rfl rfl 10 (by decide) (hts _ q39) (fun _ h9 => h9) rfl hin rfl (by decide +kernel) rfl rfl (Nat.le_of_ble_eq_true rfl) dX0_init_90 (fun H locs hP hD hS => ?_)
  have hP : va_P D vwCl [(h, .inr (0, [.ref q0, .ref q1, .ref q2, .ref q3, .ref q4, .ref q5, .ref q6, .ref q7, .ref q8, .ref q9, .ref q10, .int 0, .int 0, .int 0])), (q0, .inl (c0, 16, .inl (fun _ => 0))), (q1, .inl (c1, 14, .inl (fun i => nI ((fun _ => 0) i)))), (q2, .inl (c2, 14, .inl (fun i => jp_o ((fun _ => some 0) i)))), (q3, .inl (c3, 14, .inl (fun _ => 0))), (q4, .inl (c4, 14, .inl (fun _ => 0))), (q5, .inl (c5, 224, .inl (fun _ => 0))), (q6, .inl (c6, 14, .inl (fun i => nI ((fun _ => 0) i)))), (q7, .inl (c7, 14, .inl (fun i => jp_b ((fun _ => false) i)))), (q8, .inl (c8, 14, .inl (fun _ => 0))), (q9, .inl (c9, 14, .inl (fun i => jp_b ((fun _ => false) i)))), (q10, .inl (c10, 14, .inl (fun i => jp_b ((fun _ => false) i))))] H := hP
  have hD : va_D A [(h, .inr (0, [.ref q0, .ref q1, .ref q2, .ref q3, .ref q4, .ref q5, .ref q6, .ref q7, .ref q8, .ref q9, .ref q10, .int 0, .int 0, .int 0])), (q0, .inl (c0, 16, .inl (fun _ => 0))), (q1, .inl (c1, 14, .inl (fun i => nI ((fun _ => 0) i)))), (q2, .inl (c2, 14, .inl (fun i => jp_o ((fun _ => some 0) i)))), (q3, .inl (c3, 14, .inl (fun _ => 0))), (q4, .inl (c4, 14, .inl (fun _ => 0))), (q5, .inl (c5, 224, .inl (fun _ => 0))), (q6, .inl (c6, 14, .inl (fun i => nI ((fun _ => 0) i)))), (q7, .inl (c7, 14, .inl (fun i => jp_b ((fun _ => false) i)))), (q8, .inl (c8, 14, .inl (fun _ => 0))), (q9, .inl (c9, 14, .inl (fun i => jp_b ((fun _ => false) i)))), (q10, .inl (c10, 14, .inl (fun i => jp_b ((fun _ => false) i))))] := hD
  refine lv_aload_n hx hb dX0_init_93 rfl (lv_at hl 0 rfl) ?_
  refine lv_iconst (v := 0) hx hb dX0_init_94 (by decide) ?_
  refine va_put (D := D) (ci := 0) (v := .int 0) (ty := .int) (C := RX0) (T := TX0) (N := 14) hx hb hts in_X0 tyX0 tyX0_ok nmX0 hown hK hP hD hS 0 rfl rfl 12 (by decide) (hts _ q41) (fun _ h9 => h9) rfl (by decide +kernel) rfl rfl (Nat.le_of_ble_eq_true rfl) dX0_init_95 (fun H locs hP hD hS => ?_)
  have hP : va_P D vwCl [(h, .inr (0, [.ref q0, .ref q1, .ref q2, .ref q3, .ref q4, .ref q5, .ref q6, .ref q7, .ref q8, .ref q9, .ref q10, .int 0, .int 0, .int 0])), (q0, .inl (c0, 16, .inl (fun _ => 0))), (q1, .inl (c1, 14, .inl (fun i => nI ((fun _ => 0) i)))), (q2, .inl (c2, 14, .inl (fun i => jp_o ((fun _ => some 0) i)))), (q3, .inl (c3, 14, .inl (fun _ => 0))), (q4, .inl (c4, 14, .inl (fun _ => 0))), (q5, .inl (c5, 224, .inl (fun _ => 0))), (q6, .inl (c6, 14, .inl (fun i => nI ((fun _ => 0) i)))), (q7, .inl (c7, 14, .inl (fun i => jp_b ((fun _ => false) i)))), (q8, .inl (c8, 14, .inl (fun _ => 0))), (q9, .inl (c9, 14, .inl (fun i => jp_b ((fun _ => false) i)))), (q10, .inl (c10, 14, .inl (fun i => jp_b ((fun _ => false) i))))] H := hP
  have hD : va_D A [(h, .inr (0, [.ref q0, .ref q1, .ref q2, .ref q3, .ref q4, .ref q5, .ref q6, .ref q7, .ref q8, .ref q9, .ref q10, .int 0, .int 0, .int 0])), (q0, .inl (c0, 16, .inl (fun _ => 0))), (q1, .inl (c1, 14, .inl (fun i => nI ((fun _ => 0) i)))), (q2, .inl (c2, 14, .inl (fun i => jp_o ((fun _ => some 0) i)))), (q3, .inl (c3, 14, .inl (fun _ => 0))), (q4, .inl (c4, 14, .inl (fun _ => 0))), (q5, .inl (c5, 224, .inl (fun _ => 0))), (q6, .inl (c6, 14, .inl (fun i => nI ((fun _ => 0) i)))), (q7, .inl (c7, 14, .inl (fun i => jp_b ((fun _ => false) i)))), (q8, .inl (c8, 14, .inl (fun _ => 0))), (q9, .inl (c9, 14, .inl (fun i => jp_b ((fun _ => false) i)))), (q10, .inl (c10, 14, .inl (fun i => jp_b ((fun _ => false) i))))] := hD
  have hP9 : va_P D vwCl (wX h (fun k => match k with | 0 => q0 | 1 => q1 | 2 => q2 | 3 => q3 | 4 => q4 | 5 => q5 | 6 => q6 | 7 => q7 | 8 => q8 | 9 => q9 | _ => q10) (fun k => match k with | 0 => c0 | 1 => c1 | 2 => c2 | 3 => c3 | 4 => c4 | 5 => c5 | 6 => c6 | 7 => c7 | 8 => c8 | 9 => c9 | _ => c10) (fun _ => 0) (fun _ => 0) (fun _ => some 0) (fun _ => 0) (fun _ => 0) (fun _ => 0) (fun _ => 0) (fun _ => false) (fun _ => 0) (fun _ => false) (fun _ => false) 0 0 0) H := hP
  have hD9 : va_D A (wX h (fun k => match k with | 0 => q0 | 1 => q1 | 2 => q2 | 3 => q3 | 4 => q4 | 5 => q5 | 6 => q6 | 7 => q7 | 8 => q8 | 9 => q9 | _ => q10) (fun k => match k with | 0 => c0 | 1 => c1 | 2 => c2 | 3 => c3 | 4 => c4 | 5 => c5 | 6 => c6 | 7 => c7 | 8 => c8 | 9 => c9 | _ => c10) (fun _ => 0) (fun _ => 0) (fun _ => some 0) (fun _ => 0) (fun _ => 0) (fun _ => 0) (fun _ => 0) (fun _ => false) (fun _ => 0) (fun _ => false) (fun _ => false) 0 0 0) := hD
  have hK9 : va_K D vwCl (tX (fun k => match k with | 0 => c0 | 1 => c1 | 2 => c2 | 3 => c3 | 4 => c4 | 5 => c5 | 6 => c6 | 7 => c7 | 8 => c8 | 9 => c9 | _ => c10)) s := hK
  have hrel : xw_R h (fun k => match k with | 0 => q0 | 1 => q1 | 2 => q2 | 3 => q3 | 4 => q4 | 5 => q5 | 6 => q6 | 7 => q7 | 8 => q8 | 9 => q9 | _ => q10) (fun k => match k with | 0 => c0 | 1 => c1 | 2 => c2 | 3 => c3 | 4 => c4 | 5 => c5 | 6 => c6 | 7 => c7 | 8 => c8 | 9 => c9 | _ => c10) jg_0 (wX h (fun k => match k with | 0 => q0 | 1 => q1 | 2 => q2 | 3 => q3 | 4 => q4 | 5 => q5 | 6 => q6 | 7 => q7 | 8 => q8 | 9 => q9 | _ => q10) (fun k => match k with | 0 => c0 | 1 => c1 | 2 => c2 | 3 => c3 | 4 => c4 | 5 => c5 | 6 => c6 | 7 => c7 | 8 => c8 | 9 => c9 | _ => c10) (fun _ => 0) (fun _ => 0) (fun _ => some 0) (fun _ => 0) (fun _ => 0) (fun _ => 0) (fun _ => 0) (fun _ => false) (fun _ => 0) (fun _ => false) (fun _ => false) 0 0 0) := ⟨_, _, _, _, _, _, _, _, _, _, _, _, rfl, by decide, by decide, fun p hp => absurd hp (Nat.not_lt_zero _), fun p q hp => absurd hp (Nat.not_lt_zero _), fun t ht hk => Bool.noConfusion hk, fun p hp => absurd hp (Nat.not_lt_zero _), fun p hp => absurd hp (Nat.not_lt_zero _), fun p q _ hq => absurd hq (Nat.not_lt_zero _), fun f hf => by rw [b_0]; rfl, fun p hp => absurd hp (Nat.not_lt_zero _), fun p hp => absurd hp (Nat.not_lt_zero _), fun p hp => absurd hp (Nat.not_lt_zero _), fun p hp => absurd hp (Nat.not_lt_zero _)⟩
  exact W.vret hx hb hr (fun t ht hW => ⟨⟨((fun k => match k with | 0 => q0 | 1 => q1 | 2 => q2 | 3 => q3 | 4 => q4 | 5 => q5 | 6 => q6 | 7 => q7 | 8 => q8 | 9 => q9 | _ => q10), (fun k => match k with | 0 => c0 | 1 => c1 | 2 => c2 | 3 => c3 | 4 => c4 | 5 => c5 | 6 => c6 | 7 => c7 | 8 => c8 | 9 => c9 | _ => c10), (wX h (fun k => match k with | 0 => q0 | 1 => q1 | 2 => q2 | 3 => q3 | 4 => q4 | 5 => q5 | 6 => q6 | 7 => q7 | 8 => q8 | 9 => q9 | _ => q10) (fun k => match k with | 0 => c0 | 1 => c1 | 2 => c2 | 3 => c3 | 4 => c4 | 5 => c5 | 6 => c6 | 7 => c7 | 8 => c8 | 9 => c9 | _ => c10) (fun _ => 0) (fun _ => 0) (fun _ => some 0) (fun _ => 0) (fun _ => 0) (fun _ => 0) (fun _ => 0) (fun _ => false) (fun _ => 0) (fun _ => false) (fun _ => false) 0 0 0)), rfl, hrel, by rw [ht]; exact hP9, va_K.moved hW.alike hK9, hD9⟩, hS.F ht⟩) hS.2.2 dX0_init_98
abbrev wX1_0 (h : Nat) : va_W := [(h, .inr (1, [.int 0, .null, .null, .int 0, .null, .null, .null, .null, .null]))]
set_option maxHeartbeats 4000000 in
theorem mM_init (l : Launch) (D : va_G) (h sz : Nat) : Met l yX1_init (ws_ yX1_init cX1_init 1 none) ({ frames := 1, cells := 7, slots := 522, locals := 12 }) (va_Pc [.ref h] (fun U => U.heap.size = sz ∧ va_P D vwCl (wX1_0 h) U.heap ∧ va_K D vwCl [] U ∧ va_D (fun _ => True) (wX1_0 h))) (va_Qv (fun u : (Nat → Nat) × (Nat → ClassId) × va_W => mw_R h u.1 u.2.1 jg_0 u.2.2) (fun u t => va_P D vwCl u.2.2 t.heap ∧ va_K D vwCl (tM u.2.1) t ∧ va_D (va_A (wX1_0 h) sz) u.2.2) (va_A (wX1_0 h) sz)) 7 522 (va_A (wX1_0 h) sz) := by
  refine Met.ofW (cc := cX1_init) (maxL := 1) (ret := none) (by decide) rfl ?_
  intro p e s m args below meth c s₁ B hml hv
  obtain ⟨rfl, hsz, hP, hK, hD0⟩ := hv
  have hx := B.exec
  have hb := B.bytes
  have hr := B.returns
  have hts := atoms_spec (ws := ws_ yX1_init cX1_init 1 none) B.pre
  have hts : ∀ w ∈ lw_all, w.before _ s = true := fun w h => hts w (List.mem_cons_of_mem _ h)
  have hown : s.vm.findClass RX1 = some m.cls := findClass_of_methodNamed B.named
  have hlocks := B.notSynchronized
  have hin : meth.name = "<init>" := (name_of_methodNamed B.named B.method).1
  subst hsz
  have hD := hD0.self (sz := s.heap.size)
  generalize hAe : va_A (wX1_0 h) s.heap.size = A at hD ⊢
  have hA : ∀ q : Nat, s.heap.size ≤ q → A q := fun q h => by rw [← hAe]; exact Or.inr h
  have hS : va_S A s.heap s.heap [] := va_S.rf
  have hl := lv_entry ([.ref h]) (n := 1) (Nat.le_of_ble_eq_true rfl)
  rw [lg_entry_eq]
  generalize (lg_sl ([.ref h]) ++ List.replicate (1 - (lg_sl ([.ref h])).length) Slot.unset).toArray = ls at hl ⊢
  have hl : lv_has ls 1 [(0, .ref h)] := hl
  have hP : va_P D vwCl [(h, .inr (1, [.int 0, .null, .null, .int 0, .null, .null, .null, .null, .null]))] s.heap := hP
  refine lv_aload_n hx hb dX1_init_0 rfl (lv_at hl 0 rfl) ?_
  refine W.objInit hx hb hown (hts _ q214) (hts _ q27) (hts _ q28) rfl (by rw [hml]; exact hl.1) rfl dX1_init_1 (Nat.le_of_ble_eq_true rfl) (Nat.le_of_ble_eq_true rfl) ?_
  refine W.eq (g2 := F0 m 4 ls []) rfl ?_
  refine lv_aload_n hx hb dX1_init_4 rfl (lv_at hl 0 rfl) ?_
  refine lv_bipush (v := nI 16) hx hb dX1_init_5 (by decide) ?_
  refine va_newa (atype := .boolean) (ty := .boolean) (n := nI 16) (N' := 16) (a0 := (16, .inl (fun i => jp_b ((fun _ => false) i)))) hx hb (hts _ q73) rfl hK hP hD hS hA (fun cA => rfl) (by decide) (by decide) (by decide) (Nat.le_of_ble_eq_true rfl) (Nat.le_of_ble_eq_true rfl) dX1_init_7 (fun q0 c0 H hK hP hD hS => ?_)
  have hP : va_P D vwCl [(h, .inr (1, [.int 0, .null, .null, .int 0, .null, .null, .null, .null, .null])), (q0, .inl (c0, 16, .inl (fun i => jp_b ((fun _ => false) i))))] H := hP
  have hD : va_D A [(h, .inr (1, [.int 0, .null, .null, .int 0, .null, .null, .null, .null, .null])), (q0, .inl (c0, 16, .inl (fun i => jp_b ((fun _ => false) i))))] := hD
  have hK : va_K D vwCl [(c0, .boolean)] s := hK
  refine W.widen (k := 1) (n := 16) (Nat.le_refl _) (Nat.le_refl _) ?_
  refine va_put (D := D) (ci := 1) (v := .ref q0) (ty := .array .boolean) (C := RX1) (T := TX1) (N := 9) hx hb hts in_X1 tyX1 tyX1_ok nmX1 hown hK hP hD hS 0 rfl rfl 1 (by decide) (hts _ q216) (fun _ h9 => h9) rfl (by decide +kernel) rfl rfl (Nat.le_of_ble_eq_true rfl) dX1_init_9 (fun H locs hP hD hS => ?_)
  have hP : va_P D vwCl [(h, .inr (1, [.int 0, .ref q0, .null, .int 0, .null, .null, .null, .null, .null])), (q0, .inl (c0, 16, .inl (fun i => jp_b ((fun _ => false) i))))] H := hP
  have hD : va_D A [(h, .inr (1, [.int 0, .ref q0, .null, .int 0, .null, .null, .null, .null, .null])), (q0, .inl (c0, 16, .inl (fun i => jp_b ((fun _ => false) i))))] := hD
  refine lv_aload_n hx hb dX1_init_12 rfl (lv_at hl 0 rfl) ?_
  refine lv_bipush (v := nI 16) hx hb dX1_init_13 (by decide) ?_
  refine va_newa (atype := .int) (ty := .int) (n := nI 16) (N' := 16) (a0 := (16, .inl (fun _ => 0))) hx hb (hts _ q72) rfl hK hP hD hS hA (fun cA => rfl) (by decide) (by decide) (by decide) (Nat.le_of_ble_eq_true rfl) (Nat.le_of_ble_eq_true rfl) dX1_init_15 (fun q1 c1 H hK hP hD hS => ?_)
  have hP : va_P D vwCl [(h, .inr (1, [.int 0, .ref q0, .null, .int 0, .null, .null, .null, .null, .null])), (q0, .inl (c0, 16, .inl (fun i => jp_b ((fun _ => false) i)))), (q1, .inl (c1, 16, .inl (fun _ => 0)))] H := hP
  have hD : va_D A [(h, .inr (1, [.int 0, .ref q0, .null, .int 0, .null, .null, .null, .null, .null])), (q0, .inl (c0, 16, .inl (fun i => jp_b ((fun _ => false) i)))), (q1, .inl (c1, 16, .inl (fun _ => 0)))] := hD
  have hK : va_K D vwCl [(c0, .boolean), (c1, .int)] s := hK
  refine W.widen (k := 2) (n := 32) (Nat.le_refl _) (Nat.le_refl _) ?_
  refine va_put (D := D) (ci := 1) (v := .ref q1) (ty := .array .int) (C := RX1) (T := TX1) (N := 9) hx hb hts in_X1 tyX1 tyX1_ok nmX1 hown hK hP hD hS 0 rfl rfl 2 (by decide) (hts _ q217) (fun _ h9 => h9) rfl (by decide +kernel) rfl rfl (Nat.le_of_ble_eq_true rfl) dX1_init_17 (fun H locs hP hD hS => ?_)
  have hP : va_P D vwCl [(h, .inr (1, [.int 0, .ref q0, .ref q1, .int 0, .null, .null, .null, .null, .null])), (q0, .inl (c0, 16, .inl (fun i => jp_b ((fun _ => false) i)))), (q1, .inl (c1, 16, .inl (fun _ => 0)))] H := hP
  have hD : va_D A [(h, .inr (1, [.int 0, .ref q0, .ref q1, .int 0, .null, .null, .null, .null, .null])), (q0, .inl (c0, 16, .inl (fun i => jp_b ((fun _ => false) i)))), (q1, .inl (c1, 16, .inl (fun _ => 0)))] := hD
  refine lv_aload_n hx hb dX1_init_20 rfl (lv_at hl 0 rfl) ?_
  refine lv_sipush (v := nI 224) hx hb dX1_init_21 (by decide) ?_
  refine va_newa (atype := .boolean) (ty := .boolean) (n := nI 224) (N' := 224) (a0 := (224, .inl (fun i => jp_b ((fun _ => false) i)))) hx hb (hts _ q73) rfl hK hP hD hS hA (fun cA => rfl) (by decide) (by decide) (by decide) (Nat.le_of_ble_eq_true rfl) (Nat.le_of_ble_eq_true rfl) dX1_init_24 (fun q2 c2 H hK hP hD hS => ?_)
  have hP : va_P D vwCl [(h, .inr (1, [.int 0, .ref q0, .ref q1, .int 0, .null, .null, .null, .null, .null])), (q0, .inl (c0, 16, .inl (fun i => jp_b ((fun _ => false) i)))), (q1, .inl (c1, 16, .inl (fun _ => 0))), (q2, .inl (c2, 224, .inl (fun i => jp_b ((fun _ => false) i))))] H := hP
  have hD : va_D A [(h, .inr (1, [.int 0, .ref q0, .ref q1, .int 0, .null, .null, .null, .null, .null])), (q0, .inl (c0, 16, .inl (fun i => jp_b ((fun _ => false) i)))), (q1, .inl (c1, 16, .inl (fun _ => 0))), (q2, .inl (c2, 224, .inl (fun i => jp_b ((fun _ => false) i))))] := hD
  have hK : va_K D vwCl [(c0, .boolean), (c1, .int), (c2, .boolean)] s := hK
  refine W.widen (k := 3) (n := 256) (Nat.le_refl _) (Nat.le_refl _) ?_
  refine va_put (D := D) (ci := 1) (v := .ref q2) (ty := .array .boolean) (C := RX1) (T := TX1) (N := 9) hx hb hts in_X1 tyX1 tyX1_ok nmX1 hown hK hP hD hS 0 rfl rfl 4 (by decide) (hts _ q219) (fun _ h9 => h9) rfl (by decide +kernel) rfl rfl (Nat.le_of_ble_eq_true rfl) dX1_init_26 (fun H locs hP hD hS => ?_)
  have hP : va_P D vwCl [(h, .inr (1, [.int 0, .ref q0, .ref q1, .int 0, .ref q2, .null, .null, .null, .null])), (q0, .inl (c0, 16, .inl (fun i => jp_b ((fun _ => false) i)))), (q1, .inl (c1, 16, .inl (fun _ => 0))), (q2, .inl (c2, 224, .inl (fun i => jp_b ((fun _ => false) i))))] H := hP
  have hD : va_D A [(h, .inr (1, [.int 0, .ref q0, .ref q1, .int 0, .ref q2, .null, .null, .null, .null])), (q0, .inl (c0, 16, .inl (fun i => jp_b ((fun _ => false) i)))), (q1, .inl (c1, 16, .inl (fun _ => 0))), (q2, .inl (c2, 224, .inl (fun i => jp_b ((fun _ => false) i))))] := hD
  refine lv_aload_n hx hb dX1_init_29 rfl (lv_at hl 0 rfl) ?_
  refine lv_sipush (v := nI 224) hx hb dX1_init_30 (by decide) ?_
  refine va_newa (atype := .int) (ty := .int) (n := nI 224) (N' := 224) (a0 := (224, .inl (fun _ => 0))) hx hb (hts _ q72) rfl hK hP hD hS hA (fun cA => rfl) (by decide) (by decide) (by decide) (Nat.le_of_ble_eq_true rfl) (Nat.le_of_ble_eq_true rfl) dX1_init_33 (fun q3 c3 H hK hP hD hS => ?_)
  have hP : va_P D vwCl [(h, .inr (1, [.int 0, .ref q0, .ref q1, .int 0, .ref q2, .null, .null, .null, .null])), (q0, .inl (c0, 16, .inl (fun i => jp_b ((fun _ => false) i)))), (q1, .inl (c1, 16, .inl (fun _ => 0))), (q2, .inl (c2, 224, .inl (fun i => jp_b ((fun _ => false) i)))), (q3, .inl (c3, 224, .inl (fun _ => 0)))] H := hP
  have hD : va_D A [(h, .inr (1, [.int 0, .ref q0, .ref q1, .int 0, .ref q2, .null, .null, .null, .null])), (q0, .inl (c0, 16, .inl (fun i => jp_b ((fun _ => false) i)))), (q1, .inl (c1, 16, .inl (fun _ => 0))), (q2, .inl (c2, 224, .inl (fun i => jp_b ((fun _ => false) i)))), (q3, .inl (c3, 224, .inl (fun _ => 0)))] := hD
  have hK : va_K D vwCl [(c0, .boolean), (c1, .int), (c2, .boolean), (c3, .int)] s := hK
  refine W.widen (k := 4) (n := 480) (Nat.le_refl _) (Nat.le_refl _) ?_
  refine va_put (D := D) (ci := 1) (v := .ref q3) (ty := .array .int) (C := RX1) (T := TX1) (N := 9) hx hb hts in_X1 tyX1 tyX1_ok nmX1 hown hK hP hD hS 0 rfl rfl 5 (by decide) (hts _ q220) (fun _ h9 => h9) rfl (by decide +kernel) rfl rfl (Nat.le_of_ble_eq_true rfl) dX1_init_35 (fun H locs hP hD hS => ?_)
  have hP : va_P D vwCl [(h, .inr (1, [.int 0, .ref q0, .ref q1, .int 0, .ref q2, .ref q3, .null, .null, .null])), (q0, .inl (c0, 16, .inl (fun i => jp_b ((fun _ => false) i)))), (q1, .inl (c1, 16, .inl (fun _ => 0))), (q2, .inl (c2, 224, .inl (fun i => jp_b ((fun _ => false) i)))), (q3, .inl (c3, 224, .inl (fun _ => 0)))] H := hP
  have hD : va_D A [(h, .inr (1, [.int 0, .ref q0, .ref q1, .int 0, .ref q2, .ref q3, .null, .null, .null])), (q0, .inl (c0, 16, .inl (fun i => jp_b ((fun _ => false) i)))), (q1, .inl (c1, 16, .inl (fun _ => 0))), (q2, .inl (c2, 224, .inl (fun i => jp_b ((fun _ => false) i)))), (q3, .inl (c3, 224, .inl (fun _ => 0)))] := hD
  refine lv_aload_n hx hb dX1_init_38 rfl (lv_at hl 0 rfl) ?_
  refine lv_bipush (v := nI 14) hx hb dX1_init_39 (by decide) ?_
  refine va_newa (atype := .int) (ty := .int) (n := nI 14) (N' := 14) (a0 := (14, .inl (fun i => nI ((fun _ => 0) i)))) hx hb (hts _ q72) rfl hK hP hD hS hA (fun cA => rfl) (by decide) (by decide) (by decide) (Nat.le_of_ble_eq_true rfl) (Nat.le_of_ble_eq_true rfl) dX1_init_41 (fun q4 c4 H hK hP hD hS => ?_)
  have hP : va_P D vwCl [(h, .inr (1, [.int 0, .ref q0, .ref q1, .int 0, .ref q2, .ref q3, .null, .null, .null])), (q0, .inl (c0, 16, .inl (fun i => jp_b ((fun _ => false) i)))), (q1, .inl (c1, 16, .inl (fun _ => 0))), (q2, .inl (c2, 224, .inl (fun i => jp_b ((fun _ => false) i)))), (q3, .inl (c3, 224, .inl (fun _ => 0))), (q4, .inl (c4, 14, .inl (fun i => nI ((fun _ => 0) i))))] H := hP
  have hD : va_D A [(h, .inr (1, [.int 0, .ref q0, .ref q1, .int 0, .ref q2, .ref q3, .null, .null, .null])), (q0, .inl (c0, 16, .inl (fun i => jp_b ((fun _ => false) i)))), (q1, .inl (c1, 16, .inl (fun _ => 0))), (q2, .inl (c2, 224, .inl (fun i => jp_b ((fun _ => false) i)))), (q3, .inl (c3, 224, .inl (fun _ => 0))), (q4, .inl (c4, 14, .inl (fun i => nI ((fun _ => 0) i))))] := hD
  have hK : va_K D vwCl [(c0, .boolean), (c1, .int), (c2, .boolean), (c3, .int), (c4, .int)] s := hK
  refine W.widen (k := 5) (n := 494) (Nat.le_refl _) (Nat.le_refl _) ?_
  refine va_put (D := D) (ci := 1) (v := .ref q4) (ty := .array .int) (C := RX1) (T := TX1) (N := 9) hx hb hts in_X1 tyX1 tyX1_ok nmX1 hown hK hP hD hS 0 rfl rfl 6 (by decide) (hts _ q221) (fun _ h9 => h9) rfl (by decide +kernel) rfl rfl (Nat.le_of_ble_eq_true rfl) dX1_init_43 (fun H locs hP hD hS => ?_)
  have hP : va_P D vwCl [(h, .inr (1, [.int 0, .ref q0, .ref q1, .int 0, .ref q2, .ref q3, .ref q4, .null, .null])), (q0, .inl (c0, 16, .inl (fun i => jp_b ((fun _ => false) i)))), (q1, .inl (c1, 16, .inl (fun _ => 0))), (q2, .inl (c2, 224, .inl (fun i => jp_b ((fun _ => false) i)))), (q3, .inl (c3, 224, .inl (fun _ => 0))), (q4, .inl (c4, 14, .inl (fun i => nI ((fun _ => 0) i))))] H := hP
  have hD : va_D A [(h, .inr (1, [.int 0, .ref q0, .ref q1, .int 0, .ref q2, .ref q3, .ref q4, .null, .null])), (q0, .inl (c0, 16, .inl (fun i => jp_b ((fun _ => false) i)))), (q1, .inl (c1, 16, .inl (fun _ => 0))), (q2, .inl (c2, 224, .inl (fun i => jp_b ((fun _ => false) i)))), (q3, .inl (c3, 224, .inl (fun _ => 0))), (q4, .inl (c4, 14, .inl (fun i => nI ((fun _ => 0) i))))] := hD
  refine lv_aload_n hx hb dX1_init_46 rfl (lv_at hl 0 rfl) ?_
  refine lv_bipush (v := nI 14) hx hb dX1_init_47 (by decide) ?_
  refine va_newa (atype := .boolean) (ty := .boolean) (n := nI 14) (N' := 14) (a0 := (14, .inl (fun i => jp_b ((fun _ => false) i)))) hx hb (hts _ q73) rfl hK hP hD hS hA (fun cA => rfl) (by decide) (by decide) (by decide) (Nat.le_of_ble_eq_true rfl) (Nat.le_of_ble_eq_true rfl) dX1_init_49 (fun q5 c5 H hK hP hD hS => ?_)
  have hP : va_P D vwCl [(h, .inr (1, [.int 0, .ref q0, .ref q1, .int 0, .ref q2, .ref q3, .ref q4, .null, .null])), (q0, .inl (c0, 16, .inl (fun i => jp_b ((fun _ => false) i)))), (q1, .inl (c1, 16, .inl (fun _ => 0))), (q2, .inl (c2, 224, .inl (fun i => jp_b ((fun _ => false) i)))), (q3, .inl (c3, 224, .inl (fun _ => 0))), (q4, .inl (c4, 14, .inl (fun i => nI ((fun _ => 0) i)))), (q5, .inl (c5, 14, .inl (fun i => jp_b ((fun _ => false) i))))] H := hP
  have hD : va_D A [(h, .inr (1, [.int 0, .ref q0, .ref q1, .int 0, .ref q2, .ref q3, .ref q4, .null, .null])), (q0, .inl (c0, 16, .inl (fun i => jp_b ((fun _ => false) i)))), (q1, .inl (c1, 16, .inl (fun _ => 0))), (q2, .inl (c2, 224, .inl (fun i => jp_b ((fun _ => false) i)))), (q3, .inl (c3, 224, .inl (fun _ => 0))), (q4, .inl (c4, 14, .inl (fun i => nI ((fun _ => 0) i)))), (q5, .inl (c5, 14, .inl (fun i => jp_b ((fun _ => false) i))))] := hD
  have hK : va_K D vwCl [(c0, .boolean), (c1, .int), (c2, .boolean), (c3, .int), (c4, .int), (c5, .boolean)] s := hK
  refine W.widen (k := 6) (n := 508) (Nat.le_refl _) (Nat.le_refl _) ?_
  refine va_put (D := D) (ci := 1) (v := .ref q5) (ty := .array .boolean) (C := RX1) (T := TX1) (N := 9) hx hb hts in_X1 tyX1 tyX1_ok nmX1 hown hK hP hD hS 0 rfl rfl 7 (by decide) (hts _ q222) (fun _ h9 => h9) rfl (by decide +kernel) rfl rfl (Nat.le_of_ble_eq_true rfl) dX1_init_51 (fun H locs hP hD hS => ?_)
  have hP : va_P D vwCl [(h, .inr (1, [.int 0, .ref q0, .ref q1, .int 0, .ref q2, .ref q3, .ref q4, .ref q5, .null])), (q0, .inl (c0, 16, .inl (fun i => jp_b ((fun _ => false) i)))), (q1, .inl (c1, 16, .inl (fun _ => 0))), (q2, .inl (c2, 224, .inl (fun i => jp_b ((fun _ => false) i)))), (q3, .inl (c3, 224, .inl (fun _ => 0))), (q4, .inl (c4, 14, .inl (fun i => nI ((fun _ => 0) i)))), (q5, .inl (c5, 14, .inl (fun i => jp_b ((fun _ => false) i))))] H := hP
  have hD : va_D A [(h, .inr (1, [.int 0, .ref q0, .ref q1, .int 0, .ref q2, .ref q3, .ref q4, .ref q5, .null])), (q0, .inl (c0, 16, .inl (fun i => jp_b ((fun _ => false) i)))), (q1, .inl (c1, 16, .inl (fun _ => 0))), (q2, .inl (c2, 224, .inl (fun i => jp_b ((fun _ => false) i)))), (q3, .inl (c3, 224, .inl (fun _ => 0))), (q4, .inl (c4, 14, .inl (fun i => nI ((fun _ => 0) i)))), (q5, .inl (c5, 14, .inl (fun i => jp_b ((fun _ => false) i))))] := hD
  refine lv_aload_n hx hb dX1_init_54 rfl (lv_at hl 0 rfl) ?_
  refine lv_bipush (v := nI 14) hx hb dX1_init_55 (by decide) ?_
  refine va_newa (atype := .boolean) (ty := .boolean) (n := nI 14) (N' := 14) (a0 := (14, .inl (fun i => jp_b ((fun _ => false) i)))) hx hb (hts _ q73) rfl hK hP hD hS hA (fun cA => rfl) (by decide) (by decide) (by decide) (Nat.le_of_ble_eq_true rfl) (Nat.le_of_ble_eq_true rfl) dX1_init_57 (fun q6 c6 H hK hP hD hS => ?_)
  have hP : va_P D vwCl [(h, .inr (1, [.int 0, .ref q0, .ref q1, .int 0, .ref q2, .ref q3, .ref q4, .ref q5, .null])), (q0, .inl (c0, 16, .inl (fun i => jp_b ((fun _ => false) i)))), (q1, .inl (c1, 16, .inl (fun _ => 0))), (q2, .inl (c2, 224, .inl (fun i => jp_b ((fun _ => false) i)))), (q3, .inl (c3, 224, .inl (fun _ => 0))), (q4, .inl (c4, 14, .inl (fun i => nI ((fun _ => 0) i)))), (q5, .inl (c5, 14, .inl (fun i => jp_b ((fun _ => false) i)))), (q6, .inl (c6, 14, .inl (fun i => jp_b ((fun _ => false) i))))] H := hP
  have hD : va_D A [(h, .inr (1, [.int 0, .ref q0, .ref q1, .int 0, .ref q2, .ref q3, .ref q4, .ref q5, .null])), (q0, .inl (c0, 16, .inl (fun i => jp_b ((fun _ => false) i)))), (q1, .inl (c1, 16, .inl (fun _ => 0))), (q2, .inl (c2, 224, .inl (fun i => jp_b ((fun _ => false) i)))), (q3, .inl (c3, 224, .inl (fun _ => 0))), (q4, .inl (c4, 14, .inl (fun i => nI ((fun _ => 0) i)))), (q5, .inl (c5, 14, .inl (fun i => jp_b ((fun _ => false) i)))), (q6, .inl (c6, 14, .inl (fun i => jp_b ((fun _ => false) i))))] := hD
  have hK : va_K D vwCl [(c0, .boolean), (c1, .int), (c2, .boolean), (c3, .int), (c4, .int), (c5, .boolean), (c6, .boolean)] s := hK
  refine W.widen (k := 7) (n := 522) (Nat.le_refl _) (Nat.le_refl _) ?_
  refine va_put (D := D) (ci := 1) (v := .ref q6) (ty := .array .boolean) (C := RX1) (T := TX1) (N := 9) hx hb hts in_X1 tyX1 tyX1_ok nmX1 hown hK hP hD hS 0 rfl rfl 8 (by decide) (hts _ q223) (fun _ h9 => h9) rfl (by decide +kernel) rfl rfl (Nat.le_of_ble_eq_true rfl) dX1_init_59 (fun H locs hP hD hS => ?_)
  have hP : va_P D vwCl [(h, .inr (1, [.int 0, .ref q0, .ref q1, .int 0, .ref q2, .ref q3, .ref q4, .ref q5, .ref q6])), (q0, .inl (c0, 16, .inl (fun i => jp_b ((fun _ => false) i)))), (q1, .inl (c1, 16, .inl (fun _ => 0))), (q2, .inl (c2, 224, .inl (fun i => jp_b ((fun _ => false) i)))), (q3, .inl (c3, 224, .inl (fun _ => 0))), (q4, .inl (c4, 14, .inl (fun i => nI ((fun _ => 0) i)))), (q5, .inl (c5, 14, .inl (fun i => jp_b ((fun _ => false) i)))), (q6, .inl (c6, 14, .inl (fun i => jp_b ((fun _ => false) i))))] H := hP
  have hD : va_D A [(h, .inr (1, [.int 0, .ref q0, .ref q1, .int 0, .ref q2, .ref q3, .ref q4, .ref q5, .ref q6])), (q0, .inl (c0, 16, .inl (fun i => jp_b ((fun _ => false) i)))), (q1, .inl (c1, 16, .inl (fun _ => 0))), (q2, .inl (c2, 224, .inl (fun i => jp_b ((fun _ => false) i)))), (q3, .inl (c3, 224, .inl (fun _ => 0))), (q4, .inl (c4, 14, .inl (fun i => nI ((fun _ => 0) i)))), (q5, .inl (c5, 14, .inl (fun i => jp_b ((fun _ => false) i)))), (q6, .inl (c6, 14, .inl (fun i => jp_b ((fun _ => false) i))))] := hD
  have hP9 : va_P D vwCl (wM h (fun k => match k with | 0 => q0 | 1 => q1 | 2 => q2 | 3 => q3 | 4 => q4 | 5 => q5 | _ => q6) (fun k => match k with | 0 => c0 | 1 => c1 | 2 => c2 | 3 => c3 | 4 => c4 | 5 => c5 | _ => c6) 0 (fun _ => false) (fun _ => 0) 0 (fun _ => false) (fun _ => 0) (fun _ => 0) (fun _ => false) (fun _ => false)) H := hP
  have hD9 : va_D A (wM h (fun k => match k with | 0 => q0 | 1 => q1 | 2 => q2 | 3 => q3 | 4 => q4 | 5 => q5 | _ => q6) (fun k => match k with | 0 => c0 | 1 => c1 | 2 => c2 | 3 => c3 | 4 => c4 | 5 => c5 | _ => c6) 0 (fun _ => false) (fun _ => 0) 0 (fun _ => false) (fun _ => 0) (fun _ => 0) (fun _ => false) (fun _ => false)) := hD
  have hK9 : va_K D vwCl (tM (fun k => match k with | 0 => c0 | 1 => c1 | 2 => c2 | 3 => c3 | 4 => c4 | 5 => c5 | _ => c6)) s := hK
  have hrel : mw_R h (fun k => match k with | 0 => q0 | 1 => q1 | 2 => q2 | 3 => q3 | 4 => q4 | 5 => q5 | _ => q6) (fun k => match k with | 0 => c0 | 1 => c1 | 2 => c2 | 3 => c3 | 4 => c4 | 5 => c5 | _ => c6) jg_0 (wM h (fun k => match k with | 0 => q0 | 1 => q1 | 2 => q2 | 3 => q3 | 4 => q4 | 5 => q5 | _ => q6) (fun k => match k with | 0 => c0 | 1 => c1 | 2 => c2 | 3 => c3 | 4 => c4 | 5 => c5 | _ => c6) 0 (fun _ => false) (fun _ => 0) 0 (fun _ => false) (fun _ => 0) (fun _ => 0) (fun _ => false) (fun _ => false)) := ⟨_, _, _, _, _, _, _, rfl, by decide, by decide, fun p hp => absurd hp (Nat.not_lt_zero _), fun p q _ hq => absurd hq (Nat.not_lt_zero _), fun f hf => ⟨rfl, rfl⟩, fun p hp => absurd hp (Nat.not_lt_zero _)⟩
  exact W.vret hx hb hr (fun t ht hW => ⟨⟨((fun k => match k with | 0 => q0 | 1 => q1 | 2 => q2 | 3 => q3 | 4 => q4 | 5 => q5 | _ => q6), (fun k => match k with | 0 => c0 | 1 => c1 | 2 => c2 | 3 => c3 | 4 => c4 | 5 => c5 | _ => c6), (wM h (fun k => match k with | 0 => q0 | 1 => q1 | 2 => q2 | 3 => q3 | 4 => q4 | 5 => q5 | _ => q6) (fun k => match k with | 0 => c0 | 1 => c1 | 2 => c2 | 3 => c3 | 4 => c4 | 5 => c5 | _ => c6) 0 (fun _ => false) (fun _ => 0) 0 (fun _ => false) (fun _ => 0) (fun _ => 0) (fun _ => false) (fun _ => false))), rfl, hrel, by rw [ht]; exact hP9, va_K.moved hW.alike hK9, hD9⟩, hS.F ht⟩) hS.2.2 dX1_init_62
end
section
/-! rows of the law: two worlds side by side, the script, the switch -/
set_option maxRecDepth 100000
section
variable {D : va_G} {cl : List vw_C} {w1 w2 w1' w2' : va_W} {H H1 : Heap} {A : Nat → Prop}
theorem ja_Pl (h : va_P D cl (w1 ++ w2) H) : va_P D cl w1 H := fun k q hq => h k q (by
  rw [List.getElem?_append_left (List.getElem?_eq_some_iff.mp hq).1]; exact hq)
theorem ja_Pr (h : va_P D cl (w1 ++ w2) H) : va_P D cl w2 H := fun k q hq => h (w1.length + k) q (by
  rw [List.getElem?_append_right (Nat.le_add_right _ _), Nat.add_sub_cancel_left]; exact hq)
theorem ja_Dl (h : va_D A (w1 ++ w2)) : va_D A w1 := by
  have e : ∀ (k : Nat) (q : Nat × va_E), w1[k]? = some q → (w1 ++ w2)[k]? = some q := fun k q hq => by
    rw [List.getElem?_append_left (List.getElem?_eq_some_iff.mp hq).1]; exact hq
  exact ⟨fun i j p q hp hq => h.1 i j p q (e i p hp) (e j q hq), fun k q hq => h.2 k q (e k q hq)⟩
theorem ja_er {k : Nat} {q : Nat × va_E} (hq : w2[k]? = some q) : (w1 ++ w2)[w1.length + k]? = some q := by
  rw [List.getElem?_append_right (Nat.le_add_right _ _), Nat.add_sub_cancel_left]; exact hq
theorem ja_Dr (h : va_D A (w1 ++ w2)) : va_D A w2 :=
  ⟨fun i j p q hp hq e => Nat.add_left_cancel (h.1 _ _ p q (ja_er hp) (ja_er hq) e), fun k q hq => h.2 _ q (ja_er hq)⟩
theorem ja_Dx (h : va_D A (w1 ++ w2)) {i j : Nat} {p q : Nat × va_E} (hp : w1[i]? = some p) (hq : w2[j]? = some q) : p.1 ≠ q.1 := fun e => by
  have hi := (List.getElem?_eq_some_iff.mp hp).1
  have := h.1 i (w1.length + j) p q (by rw [List.getElem?_append_left hi]; exact hp) (ja_er hq) e
  omega
theorem ja_joinR (hP : va_P D cl (w1 ++ w2) H) (hD : va_D A (w1 ++ w2)) (hk : ∀ q, q < H.size → ¬ va_A w2 H.size q → H1[q]? = H[q]?) (hF : ∀ q, va_A w2 H.size q → A q) (hP1 : va_P D cl w2' H1) (hD1 : va_D (va_A w2 H.size) w2') : va_P D cl (w1 ++ w2') H1 ∧ va_D A (w1 ++ w2') := by
  have hout : ∀ (k : Nat) (q : Nat × va_E), w1[k]? = some q → q.1 < H.size ∧ ¬ va_A w2 H.size q.1 := fun k q hq => by
    have hl := (ja_Pl hP k q hq).lt
    refine ⟨hl, ?_⟩
    rintro (⟨j, e, hj⟩ | hj)
    · exact ja_Dx hD hq hj rfl
    · omega
  refine ⟨va_P.app ((ja_Pl hP).kept (fun k q hq => hk _ (hout k q hq).1 (hout k q hq).2)) hP1, va_D.app (ja_Dl hD) (hD1.weaken (fun _ q _ h => hF q.1 h)) (fun i j p q hp hq e => (hout i p hp).2 (by rw [e]; exact hD1.2 j q hq))⟩
theorem ja_joinL (hP : va_P D cl (w1 ++ w2) H) (hD : va_D A (w1 ++ w2)) (hk : ∀ q, q < H.size → ¬ va_A w1 H.size q → H1[q]? = H[q]?) (hF : ∀ q, va_A w1 H.size q → A q) (hP1 : va_P D cl w1' H1) (hD1 : va_D (va_A w1 H.size) w1') : va_P D cl (w1' ++ w2) H1 ∧ va_D A (w1' ++ w2) := by
  have hout : ∀ (k : Nat) (q : Nat × va_E), w2[k]? = some q → q.1 < H.size ∧ ¬ va_A w1 H.size q.1 := fun k q hq => by
    have hl := (ja_Pr hP k q hq).lt
    refine ⟨hl, ?_⟩
    rintro (⟨j, e, hj⟩ | hj)
    · exact ja_Dx hD hj hq rfl
    · omega
  refine ⟨va_P.app hP1 ((ja_Pr hP).kept (fun k q hq => hk _ (hout k q hq).1 (hout k q hq).2)), va_D.app (hD1.weaken (fun _ q _ h => hF q.1 h)) (ja_Dr hD) (fun i j p q hp hq e => (hout j q hq).2 (by rw [← e]; exact hD1.2 i p hp))⟩
end
section
variable {E : je_E} {cc : ByteArray} {nL : Nat} {own : String} {tys t1 : List (ClassId × FieldType)} {lev : Nat} {w w1 w2 : va_W} {pc : Nat} {lv : List (Nat × Value)} {st : List Value}
variable {y : MethodName} {bytes : ByteArray} {maxL k idx b : Nat} {ret : Option FieldType} {na : Nat} {As rest : List Value} {C0 : String} {ci : Nat} {fs : List Value} {T : u_T} {N : Nat}
/-- a call on the first of two worlds -/
theorem jr_callL (C : jw_C E cc nL own tys lev) {post : Int32 → va_W → Prop} (hK : va_K (je_D E) vwCl t1 (je_s E)) (hG : GoodIn lw_all (wsV own idx C0 y (ws_ y bytes maxL ret))) (hy : y.cls = C0 ∧ y.cls ≠ "java/lang/invoke/MethodHandle" ∧ y.cls ≠ "java/lang/invoke/VarHandle" ∧ (parseMethodDescriptor y.desc).map (fun d => d.parameters.length) = some na) (hM : jw_Mi y bytes maxL ret k (je_D E) t1 (.ref b :: As) w1 post) (hna : As.length = na) (hk : k + 1 ≤ lev) (hm : maxL ≤ 7) (h0 : w1[0]? = some (b, .inr (ci, fs))) (hc : vwCl[ci]? = some (C0, T, N)) (hd : decode cc pc = .ok (.invokevirtual idx, 3)) (hst : st = As.reverse ++ .ref b :: rest) (hrs : (rest.map fun v => v.category).sum ≤ 8)
    (kk : ∀ r w1', post r w1' → jw_J E nL (w1' ++ w2) (pc + 3) lv (.int r :: rest)) : jw_J E nL (w1 ++ w2) pc lv st := by
  subst hna
  intro H locs ls hP hD hS hl
  have hPs := ja_Pl hP
  have hDs := ja_Dl hD
  have hFc := jw_free C hDs hS
  refine va_calli (va_runV (As := As) (rest := rest) ⟨C.1, C.2.1, C.2.2.1, C.2.2.2.1, C.2.2.2.2.1⟩ (hM (je_l E) H.size) (cwV As.length C.2.2.2.2.1 hG rfl rfl rfl hy (jw_roomy C hk hm)) ⟨jw_blind, va_recv hK hPs (ci := ci) (q0 := 0) hc h0, fun U hU hW => ⟨rfl, by rw [hU], by rw [hU]; exact hPs, va_K.moved hW.alike hK, hDs.weaken (fun _ _ _ _ => trivial)⟩⟩ rfl rfl hl.1 hst (lv_room (m := je_m E) (pc := pc) (ls := ls) (rest := st) hrs) hd ⟨C.2.2.2.2.2.2.2.2.1, C.2.2.2.2.2.2.2.2.2⟩) hS (fun q _ h => hFc q h) hFc (fun r w' t H1 locs1 ht hvm hp hB hz hk1 hS1 => ?_)
  obtain ⟨hP1, hD1⟩ := hB
  rw [ht] at hP1
  obtain ⟨hP2, hD2⟩ := ja_joinL hP hD hk1 hFc hP1 hD1
  exact kk r w' hp H1 locs1 ls hP2 hD2 hS1 hl
/-- a call on the second of two worlds -/
theorem jr_callR (C : jw_C E cc nL own tys lev) {post : Int32 → va_W → Prop} (hK : va_K (je_D E) vwCl t1 (je_s E)) (hG : GoodIn lw_all (wsV own idx C0 y (ws_ y bytes maxL ret))) (hy : y.cls = C0 ∧ y.cls ≠ "java/lang/invoke/MethodHandle" ∧ y.cls ≠ "java/lang/invoke/VarHandle" ∧ (parseMethodDescriptor y.desc).map (fun d => d.parameters.length) = some na) (hM : jw_Mi y bytes maxL ret k (je_D E) t1 (.ref b :: As) w2 post) (hna : As.length = na) (hk : k + 1 ≤ lev) (hm : maxL ≤ 7) (h0 : w2[0]? = some (b, .inr (ci, fs))) (hc : vwCl[ci]? = some (C0, T, N)) (hd : decode cc pc = .ok (.invokevirtual idx, 3)) (hst : st = As.reverse ++ .ref b :: rest) (hrs : (rest.map fun v => v.category).sum ≤ 8)
    (kk : ∀ r w2', post r w2' → jw_J E nL (w1 ++ w2') (pc + 3) lv (.int r :: rest)) : jw_J E nL (w1 ++ w2) pc lv st := by
  subst hna
  intro H locs ls hP hD hS hl
  have hPs := ja_Pr hP
  have hDs := ja_Dr hD
  have hFc := jw_free C hDs hS
  refine va_calli (va_runV (As := As) (rest := rest) ⟨C.1, C.2.1, C.2.2.1, C.2.2.2.1, C.2.2.2.2.1⟩ (hM (je_l E) H.size) (cwV As.length C.2.2.2.2.1 hG rfl rfl rfl hy (jw_roomy C hk hm)) ⟨jw_blind, va_recv hK hPs (ci := ci) (q0 := 0) hc h0, fun U hU hW => ⟨rfl, by rw [hU], by rw [hU]; exact hPs, va_K.moved hW.alike hK, hDs.weaken (fun _ _ _ _ => trivial)⟩⟩ rfl rfl hl.1 hst (lv_room (m := je_m E) (pc := pc) (ls := ls) (rest := st) hrs) hd ⟨C.2.2.2.2.2.2.2.2.1, C.2.2.2.2.2.2.2.2.2⟩) hS (fun q _ h => hFc q h) hFc (fun r w' t H1 locs1 ht hvm hp hB hz hk1 hS1 => ?_)
  obtain ⟨hP1, hD1⟩ := hB
  rw [ht] at hP1
  obtain ⟨hP2, hD2⟩ := ja_joinR hP hD hk1 hFc hP1 hD1
  exact kk r w' hp H1 locs1 ls hP2 hD2 hS1 hl
theorem jl_slen (C : jw_C E cc nL own tys lev) {L : Nat} {xs : Nat → Int32} (hX : va_X b L xs (je_s E) (je_s E).heap) (hbl : b < (je_s E).heap.size) (hbA : ¬ je_A E b) (hd : decode cc pc = .ok (.arraylength, 1)) (kk : jw_J E nL w (pc + 1) lv (.int (nI L) :: st)) : jw_J E nL w pc lv (.ref b :: st) := fun H locs ls hP hD hS hl => va_slen C.1 C.2.1 hX hbl hbA hS hd (kk H locs ls hP hD hS hl)
theorem jl_sld (C : jw_C E cc nL own tys lev) {L : Nat} {xs : Nat → Int32} (hX : va_X b L xs (je_s E) (je_s E).heap) (hbl : b < (je_s E).heap.size) (hbA : ¬ je_A E b) {i : Nat} (hi : i < L) (hL : L ≤ 256) (hd : decode cc pc = .ok (.iaload, 1)) (kk : jw_J E nL w (pc + 1) lv (.int (xs i) :: st)) : jw_J E nL w pc lv (.int (nI i) :: .ref b :: st) := fun H locs ls hP hD hS hl => va_sld C.1 C.2.1 hX hbl hbA hS (vp_in_nI hi (by omega)) hd (by rw [nI_clamp (by omega)]; exact kk H locs ls hP hD hS hl)
theorem jl_tab (C : jw_C E cc nL own tys lev) {j : Nat} {dflt off : Int} {offs : Array Int} {len tgt : Nat} (hd : decode cc pc = .ok (.tableswitch dflt 0 21 offs, len)) (hj : j < 22) (ho : offs[j]? = some off) (ht : (pc : Int) + off = (tgt : Int)) (kk : jw_J E nL w tgt lv st) : jw_J E nL w pc lv (.int (nI j) :: st) := fun H locs ls hP hD hS hl => by
  have e : (nI j).toInt = (j : Int) := nI_toInt (by omega)
  exact lv_tableIn C.1 C.2.1 hd (by rw [e]; omega) (by rw [e]; omega) (by rw [e, show ((j : Int) - 0).toNat = j by omega]; exact ho) ht (kk H locs ls hP hD hS hl)
theorem jl_tabO (C : jw_C E cc nL own tys lev) {j : Nat} {dflt : Int} {offs : Array Int} {len tgt : Nat} (hd : decode cc pc = .ok (.tableswitch dflt 0 21 offs, len)) (hj : 22 ≤ j) (hj2 : j < 32) (ht : (pc : Int) + dflt = (tgt : Int)) (kk : jw_J E nL w tgt lv st) : jw_J E nL w pc lv (.int (nI j) :: st) := fun H locs ls hP hD hS hl => by
  have e : (nI j).toInt = (j : Int) := nI_toInt (by omega)
  exact lv_tableOut C.1 C.2.1 hd (Or.inr (by rw [e]; omega)) ht (kk H locs ls hP hD hS hl)
theorem jl_gt {L i : Nat} (hL : L ≤ 256) (hi : i ≤ 256) : nI L - nI 4 < nI i ↔ L < i + 4 := by
  rw [Int32.lt_iff_toInt_lt, pk_sub_toInt (by omega) (by omega), nI_toInt (by omega)]
  omega
theorem jl_4 (i : Nat) : nI i + Int32.ofInt 4 = nI (i + 4) := by
  rw [← nI_add]
  rfl
end
end
section
/-! the law: a case each -/
set_option maxRecDepth 100000
section
variable {E : je_E} {L b : Nat} {xs : Nat → Int32} {qx qm : Nat} {ax am : Nat → Nat} {cx cm : Nat → ClassId} {G : jg_G} {wx wm : va_W} {i : Nat}
theorem ml_put (C : jw_C E cL_law 4 R_law [] 7) (hKx : va_K (je_D E) vwCl (tX cx) (je_s E)) (hKm : va_K (je_D E) vwCl (tM cm) (je_s E)) (hX : va_X b L xs (je_s E) (je_s E).heap) (hbl : b < (je_s E).heap.size) (hbA : ¬ je_A E b) (hL : L ≤ 256) (hi : i + 4 ≤ L) (hx : xw_R qx ax cx G wx) (hm : mw_R qm am cm G wm) (kk : ∀ (G : jg_G) (wx wm : va_W), xw_R qx ax cx G wx → mw_R qm am cm G wm → jw_J E 4 (wx ++ wm) 722 [(0, .ref b), (1, .ref qx), (2, .ref qm), (3, .int (nI i))] []) : jw_J E 4 (wx ++ wm) 136 [(0, .ref b), (1, .ref qx), (2, .ref qm), (3, .int (nI i))] [] := by
  obtain ⟨kp, lc, o, bs, en, pr, ct, dy, pn, tc, tk, lm, rfl, hr⟩ := hx
  obtain ⟨kp2, lt2, li2, he2, ct2, dy2, pn2, rfl, hr2⟩ := hm
  refine jr_aload_n (pc := 136) C dL_law_136 rfl ?_
  refine jr_aload_n (pc := 137) C dL_law_137 rfl ?_
  refine jr_iload_n (pc := 138) C dL_law_138 rfl ?_
  refine jr_iconst (pc := 139) (v := nI 1) C dL_law_139 (by decide) ?_
  refine jr_iaddN (pc := 140) C dL_law_140 ?_
  refine jl_sld (pc := 141) C hX hbl hbA (by omega) hL dL_law_141 ?_
  refine jr_aload_n (pc := 142) C dL_law_142 rfl ?_
  refine jr_iload_n (pc := 143) C dL_law_143 rfl ?_
  refine jr_iconst (pc := 144) (v := nI 2) C dL_law_144 (by decide) ?_
  refine jr_iaddN (pc := 145) C dL_law_145 ?_
  refine jl_sld (pc := 146) C hX hbl hbA (by omega) hL dL_law_146 ?_
  refine jr_callL (pc := 147) C hKx gw_L_13 ok_X0_put (mX_put hr _ _) rfl (by decide) (by decide) rfl rfl dL_law_147 rfl (Nat.le_of_ble_eq_true rfl) ?_
  rintro _ wx1 ⟨rfl, hx1⟩
  refine jr_aload_n (pc := 150) C dL_law_150 rfl ?_
  refine jr_aload_n (pc := 151) C dL_law_151 rfl ?_
  refine jr_iload_n (pc := 152) C dL_law_152 rfl ?_
  refine jr_iconst (pc := 153) (v := nI 1) C dL_law_153 (by decide) ?_
  refine jr_iaddN (pc := 154) C dL_law_154 ?_
  refine jl_sld (pc := 155) C hX hbl hbA (by omega) hL dL_law_155 ?_
  refine jr_aload_n (pc := 156) C dL_law_156 rfl ?_
  refine jr_iload_n (pc := 157) C dL_law_157 rfl ?_
  refine jr_iconst (pc := 158) (v := nI 2) C dL_law_158 (by decide) ?_
  refine jr_iaddN (pc := 159) C dL_law_159 ?_
  refine jl_sld (pc := 160) C hX hbl hbA (by omega) hL dL_law_160 ?_
  refine jr_callR (pc := 161) C hKm gw_L_17 ok_X1_put (mM_put hr2 _ _) rfl (by decide) (by decide) rfl rfl dL_law_161 rfl (Nat.le_of_ble_eq_true rfl) ?_
  rintro _ wm1 ⟨rfl, hm1⟩
  exact jr_icmp_eq (tgt := 722) (pc := 164) C dL_law_164 (by decide) (fun _ => kk _ _ _ hx1 hm1) (fun z => absurd rfl z)
theorem ml_delete (C : jw_C E cL_law 4 R_law [] 7) (hKx : va_K (je_D E) vwCl (tX cx) (je_s E)) (hKm : va_K (je_D E) vwCl (tM cm) (je_s E)) (hX : va_X b L xs (je_s E) (je_s E).heap) (hbl : b < (je_s E).heap.size) (hbA : ¬ je_A E b) (hL : L ≤ 256) (hi : i + 4 ≤ L) (hx : xw_R qx ax cx G wx) (hm : mw_R qm am cm G wm) (kk : ∀ (G : jg_G) (wx wm : va_W), xw_R qx ax cx G wx → mw_R qm am cm G wm → jw_J E 4 (wx ++ wm) 722 [(0, .ref b), (1, .ref qx), (2, .ref qm), (3, .int (nI i))] []) : jw_J E 4 (wx ++ wm) 169 [(0, .ref b), (1, .ref qx), (2, .ref qm), (3, .int (nI i))] [] := by
  obtain ⟨kp, lc, o, bs, en, pr, ct, dy, pn, tc, tk, lm, rfl, hr⟩ := hx
  obtain ⟨kp2, lt2, li2, he2, ct2, dy2, pn2, rfl, hr2⟩ := hm
  refine jr_aload_n (pc := 169) C dL_law_169 rfl ?_
  refine jr_aload_n (pc := 170) C dL_law_170 rfl ?_
  refine jr_iload_n (pc := 171) C dL_law_171 rfl ?_
  refine jr_iconst (pc := 172) (v := nI 1) C dL_law_172 (by decide) ?_
  refine jr_iaddN (pc := 173) C dL_law_173 ?_
  refine jl_sld (pc := 174) C hX hbl hbA (by omega) hL dL_law_174 ?_
  refine jr_callL (pc := 175) C hKx gw_L_18 ok_X0_delete (mX_delete hr _) rfl (by decide) (by decide) rfl rfl dL_law_175 rfl (Nat.le_of_ble_eq_true rfl) ?_
  rintro _ wx1 ⟨rfl, hx1⟩
  refine jr_aload_n (pc := 178) C dL_law_178 rfl ?_
  refine jr_aload_n (pc := 179) C dL_law_179 rfl ?_
  refine jr_iload_n (pc := 180) C dL_law_180 rfl ?_
  refine jr_iconst (pc := 181) (v := nI 1) C dL_law_181 (by decide) ?_
  refine jr_iaddN (pc := 182) C dL_law_182 ?_
  refine jl_sld (pc := 183) C hX hbl hbA (by omega) hL dL_law_183 ?_
  refine jr_callR (pc := 184) C hKm gw_L_22 ok_X1_delete (mM_delete hr2 _) rfl (by decide) (by decide) rfl rfl dL_law_184 rfl (Nat.le_of_ble_eq_true rfl) ?_
  rintro _ wm1 ⟨rfl, hm1⟩
  exact jr_icmp_eq (tgt := 722) (pc := 187) C dL_law_187 (by decide) (fun _ => kk _ _ _ hx1 hm1) (fun z => absurd rfl z)
theorem ml_rename (C : jw_C E cL_law 4 R_law [] 7) (hKx : va_K (je_D E) vwCl (tX cx) (je_s E)) (hKm : va_K (je_D E) vwCl (tM cm) (je_s E)) (hX : va_X b L xs (je_s E) (je_s E).heap) (hbl : b < (je_s E).heap.size) (hbA : ¬ je_A E b) (hL : L ≤ 256) (hi : i + 4 ≤ L) (hx : xw_R qx ax cx G wx) (hm : mw_R qm am cm G wm) (kk : ∀ (G : jg_G) (wx wm : va_W), xw_R qx ax cx G wx → mw_R qm am cm G wm → jw_J E 4 (wx ++ wm) 722 [(0, .ref b), (1, .ref qx), (2, .ref qm), (3, .int (nI i))] []) : jw_J E 4 (wx ++ wm) 192 [(0, .ref b), (1, .ref qx), (2, .ref qm), (3, .int (nI i))] [] := by
  obtain ⟨kp, lc, o, bs, en, pr, ct, dy, pn, tc, tk, lm, rfl, hr⟩ := hx
  obtain ⟨kp2, lt2, li2, he2, ct2, dy2, pn2, rfl, hr2⟩ := hm
  refine jr_aload_n (pc := 192) C dL_law_192 rfl ?_
  refine jr_aload_n (pc := 193) C dL_law_193 rfl ?_
  refine jr_iload_n (pc := 194) C dL_law_194 rfl ?_
  refine jr_iconst (pc := 195) (v := nI 1) C dL_law_195 (by decide) ?_
  refine jr_iaddN (pc := 196) C dL_law_196 ?_
  refine jl_sld (pc := 197) C hX hbl hbA (by omega) hL dL_law_197 ?_
  refine jr_aload_n (pc := 198) C dL_law_198 rfl ?_
  refine jr_iload_n (pc := 199) C dL_law_199 rfl ?_
  refine jr_iconst (pc := 200) (v := nI 2) C dL_law_200 (by decide) ?_
  refine jr_iaddN (pc := 201) C dL_law_201 ?_
  refine jl_sld (pc := 202) C hX hbl hbA (by omega) hL dL_law_202 ?_
  refine jr_callL (pc := 203) C hKx gw_L_23 ok_X0_rename (mX_rename hr _ _) rfl (by decide) (by decide) rfl rfl dL_law_203 rfl (Nat.le_of_ble_eq_true rfl) ?_
  rintro _ wx1 ⟨rfl, hx1⟩
  refine jr_aload_n (pc := 206) C dL_law_206 rfl ?_
  refine jr_aload_n (pc := 207) C dL_law_207 rfl ?_
  refine jr_iload_n (pc := 208) C dL_law_208 rfl ?_
  refine jr_iconst (pc := 209) (v := nI 1) C dL_law_209 (by decide) ?_
  refine jr_iaddN (pc := 210) C dL_law_210 ?_
  refine jl_sld (pc := 211) C hX hbl hbA (by omega) hL dL_law_211 ?_
  refine jr_aload_n (pc := 212) C dL_law_212 rfl ?_
  refine jr_iload_n (pc := 213) C dL_law_213 rfl ?_
  refine jr_iconst (pc := 214) (v := nI 2) C dL_law_214 (by decide) ?_
  refine jr_iaddN (pc := 215) C dL_law_215 ?_
  refine jl_sld (pc := 216) C hX hbl hbA (by omega) hL dL_law_216 ?_
  refine jr_callR (pc := 217) C hKm gw_L_26 ok_X1_rename (mM_rename hr2 _ _) rfl (by decide) (by decide) rfl rfl dL_law_217 rfl (Nat.le_of_ble_eq_true rfl) ?_
  rintro _ wm1 ⟨rfl, hm1⟩
  exact jr_icmp_eq (tgt := 722) (pc := 220) C dL_law_220 (by decide) (fun _ => kk _ _ _ hx1 hm1) (fun z => absurd rfl z)
theorem ml_rewrite (C : jw_C E cL_law 4 R_law [] 7) (hKx : va_K (je_D E) vwCl (tX cx) (je_s E)) (hKm : va_K (je_D E) vwCl (tM cm) (je_s E)) (hX : va_X b L xs (je_s E) (je_s E).heap) (hbl : b < (je_s E).heap.size) (hbA : ¬ je_A E b) (hL : L ≤ 256) (hi : i + 4 ≤ L) (hx : xw_R qx ax cx G wx) (hm : mw_R qm am cm G wm) (kk : ∀ (G : jg_G) (wx wm : va_W), xw_R qx ax cx G wx → mw_R qm am cm G wm → jw_J E 4 (wx ++ wm) 722 [(0, .ref b), (1, .ref qx), (2, .ref qm), (3, .int (nI i))] []) : jw_J E 4 (wx ++ wm) 225 [(0, .ref b), (1, .ref qx), (2, .ref qm), (3, .int (nI i))] [] := by
  obtain ⟨kp, lc, o, bs, en, pr, ct, dy, pn, tc, tk, lm, rfl, hr⟩ := hx
  obtain ⟨kp2, lt2, li2, he2, ct2, dy2, pn2, rfl, hr2⟩ := hm
  refine jr_aload_n (pc := 225) C dL_law_225 rfl ?_
  refine jr_aload_n (pc := 226) C dL_law_226 rfl ?_
  refine jr_iload_n (pc := 227) C dL_law_227 rfl ?_
  refine jr_iconst (pc := 228) (v := nI 1) C dL_law_228 (by decide) ?_
  refine jr_iaddN (pc := 229) C dL_law_229 ?_
  refine jl_sld (pc := 230) C hX hbl hbA (by omega) hL dL_law_230 ?_
  refine jr_aload_n (pc := 231) C dL_law_231 rfl ?_
  refine jr_iload_n (pc := 232) C dL_law_232 rfl ?_
  refine jr_iconst (pc := 233) (v := nI 2) C dL_law_233 (by decide) ?_
  refine jr_iaddN (pc := 234) C dL_law_234 ?_
  refine jl_sld (pc := 235) C hX hbl hbA (by omega) hL dL_law_235 ?_
  refine jr_aload_n (pc := 236) C dL_law_236 rfl ?_
  refine jr_iload_n (pc := 237) C dL_law_237 rfl ?_
  refine jr_iconst (pc := 238) (v := nI 3) C dL_law_238 (by decide) ?_
  refine jr_iaddN (pc := 239) C dL_law_239 ?_
  refine jl_sld (pc := 240) C hX hbl hbA (by omega) hL dL_law_240 ?_
  refine jr_callL (pc := 241) C hKx gw_L_27 ok_X0_rewrite (mX_rewrite hr _ _ _) rfl (by decide) (by decide) rfl rfl dL_law_241 rfl (Nat.le_of_ble_eq_true rfl) ?_
  rintro _ wx1 ⟨rfl, hx1⟩
  refine jr_aload_n (pc := 244) C dL_law_244 rfl ?_
  refine jr_aload_n (pc := 245) C dL_law_245 rfl ?_
  refine jr_iload_n (pc := 246) C dL_law_246 rfl ?_
  refine jr_iconst (pc := 247) (v := nI 1) C dL_law_247 (by decide) ?_
  refine jr_iaddN (pc := 248) C dL_law_248 ?_
  refine jl_sld (pc := 249) C hX hbl hbA (by omega) hL dL_law_249 ?_
  refine jr_aload_n (pc := 250) C dL_law_250 rfl ?_
  refine jr_iload_n (pc := 251) C dL_law_251 rfl ?_
  refine jr_iconst (pc := 252) (v := nI 2) C dL_law_252 (by decide) ?_
  refine jr_iaddN (pc := 253) C dL_law_253 ?_
  refine jl_sld (pc := 254) C hX hbl hbA (by omega) hL dL_law_254 ?_
  refine jr_aload_n (pc := 255) C dL_law_255 rfl ?_
  refine jr_iload_n (pc := 256) C dL_law_256 rfl ?_
  refine jr_iconst (pc := 257) (v := nI 3) C dL_law_257 (by decide) ?_
  refine jr_iaddN (pc := 258) C dL_law_258 ?_
  refine jl_sld (pc := 259) C hX hbl hbA (by omega) hL dL_law_259 ?_
  refine jr_callR (pc := 260) C hKm gw_L_31 ok_X1_rewrite (mM_rewrite hr2 _ _ _) rfl (by decide) (by decide) rfl rfl dL_law_260 rfl (Nat.le_of_ble_eq_true rfl) ?_
  rintro _ wm1 ⟨rfl, hm1⟩
  exact jr_icmp_eq (tgt := 722) (pc := 263) C dL_law_263 (by decide) (fun _ => kk _ _ _ hx1 hm1) (fun z => absurd rfl z)
theorem ml_advance (C : jw_C E cL_law 4 R_law [] 7) (hKx : va_K (je_D E) vwCl (tX cx) (je_s E)) (hKm : va_K (je_D E) vwCl (tM cm) (je_s E)) (hX : va_X b L xs (je_s E) (je_s E).heap) (hbl : b < (je_s E).heap.size) (hbA : ¬ je_A E b) (hL : L ≤ 256) (hi : i + 4 ≤ L) (hx : xw_R qx ax cx G wx) (hm : mw_R qm am cm G wm) (kk : ∀ (G : jg_G) (wx wm : va_W), xw_R qx ax cx G wx → mw_R qm am cm G wm → jw_J E 4 (wx ++ wm) 722 [(0, .ref b), (1, .ref qx), (2, .ref qm), (3, .int (nI i))] []) : jw_J E 4 (wx ++ wm) 268 [(0, .ref b), (1, .ref qx), (2, .ref qm), (3, .int (nI i))] [] := by
  obtain ⟨kp, lc, o, bs, en, pr, ct, dy, pn, tc, tk, lm, rfl, hr⟩ := hx
  obtain ⟨kp2, lt2, li2, he2, ct2, dy2, pn2, rfl, hr2⟩ := hm
  refine jr_aload_n (pc := 268) C dL_law_268 rfl ?_
  refine jr_aload_n (pc := 269) C dL_law_269 rfl ?_
  refine jr_iload_n (pc := 270) C dL_law_270 rfl ?_
  refine jr_iconst (pc := 271) (v := nI 1) C dL_law_271 (by decide) ?_
  refine jr_iaddN (pc := 272) C dL_law_272 ?_
  refine jl_sld (pc := 273) C hX hbl hbA (by omega) hL dL_law_273 ?_
  refine jr_callL (pc := 274) C hKx gw_L_32 ok_X0_advance (mX_advance hr _) rfl (by decide) (by decide) rfl rfl dL_law_274 rfl (Nat.le_of_ble_eq_true rfl) ?_
  rintro _ wx1 ⟨rfl, hx1⟩
  refine jr_aload_n (pc := 277) C dL_law_277 rfl ?_
  refine jr_aload_n (pc := 278) C dL_law_278 rfl ?_
  refine jr_iload_n (pc := 279) C dL_law_279 rfl ?_
  refine jr_iconst (pc := 280) (v := nI 1) C dL_law_280 (by decide) ?_
  refine jr_iaddN (pc := 281) C dL_law_281 ?_
  refine jl_sld (pc := 282) C hX hbl hbA (by omega) hL dL_law_282 ?_
  refine jr_callR (pc := 283) C hKm gw_L_35 ok_X1_advance (mM_advance hr2 _) rfl (by decide) (by decide) rfl rfl dL_law_283 rfl (Nat.le_of_ble_eq_true rfl) ?_
  rintro _ wm1 ⟨rfl, hm1⟩
  exact jr_icmp_eq (tgt := 722) (pc := 286) C dL_law_286 (by decide) (fun _ => kk _ _ _ hx1 hm1) (fun z => absurd rfl z)
theorem ml_take (C : jw_C E cL_law 4 R_law [] 7) (hKx : va_K (je_D E) vwCl (tX cx) (je_s E)) (hKm : va_K (je_D E) vwCl (tM cm) (je_s E)) (hX : va_X b L xs (je_s E) (je_s E).heap) (hbl : b < (je_s E).heap.size) (hbA : ¬ je_A E b) (hL : L ≤ 256) (hi : i + 4 ≤ L) (hx : xw_R qx ax cx G wx) (hm : mw_R qm am cm G wm) (kk : ∀ (G : jg_G) (wx wm : va_W), xw_R qx ax cx G wx → mw_R qm am cm G wm → jw_J E 4 (wx ++ wm) 722 [(0, .ref b), (1, .ref qx), (2, .ref qm), (3, .int (nI i))] []) : jw_J E 4 (wx ++ wm) 291 [(0, .ref b), (1, .ref qx), (2, .ref qm), (3, .int (nI i))] [] := by
  obtain ⟨kp, lc, o, bs, en, pr, ct, dy, pn, tc, tk, lm, rfl, hr⟩ := hx
  obtain ⟨kp2, lt2, li2, he2, ct2, dy2, pn2, rfl, hr2⟩ := hm
  refine jr_aload_n (pc := 291) C dL_law_291 rfl ?_
  refine jr_aload_n (pc := 292) C dL_law_292 rfl ?_
  refine jr_iload_n (pc := 293) C dL_law_293 rfl ?_
  refine jr_iconst (pc := 294) (v := nI 1) C dL_law_294 (by decide) ?_
  refine jr_iaddN (pc := 295) C dL_law_295 ?_
  refine jl_sld (pc := 296) C hX hbl hbA (by omega) hL dL_law_296 ?_
  refine jr_callL (pc := 297) C hKx gw_L_36 ok_X0_take (mX_take hr _) rfl (by decide) (by decide) rfl rfl dL_law_297 rfl (Nat.le_of_ble_eq_true rfl) ?_
  rintro _ wx1 ⟨rfl, hx1⟩
  refine jr_aload_n (pc := 300) C dL_law_300 rfl ?_
  refine jr_aload_n (pc := 301) C dL_law_301 rfl ?_
  refine jr_iload_n (pc := 302) C dL_law_302 rfl ?_
  refine jr_iconst (pc := 303) (v := nI 1) C dL_law_303 (by decide) ?_
  refine jr_iaddN (pc := 304) C dL_law_304 ?_
  refine jl_sld (pc := 305) C hX hbl hbA (by omega) hL dL_law_305 ?_
  refine jr_callR (pc := 306) C hKm gw_L_39 ok_X1_take (mM_take hr2 _) rfl (by decide) (by decide) rfl rfl dL_law_306 rfl (Nat.le_of_ble_eq_true rfl) ?_
  rintro _ wm1 ⟨rfl, hm1⟩
  exact jr_icmp_eq (tgt := 722) (pc := 309) C dL_law_309 (by decide) (fun _ => kk _ _ _ hx1 hm1) (fun z => absurd rfl z)
theorem ml_restore (C : jw_C E cL_law 4 R_law [] 7) (hKx : va_K (je_D E) vwCl (tX cx) (je_s E)) (hKm : va_K (je_D E) vwCl (tM cm) (je_s E)) (hX : va_X b L xs (je_s E) (je_s E).heap) (hbl : b < (je_s E).heap.size) (hbA : ¬ je_A E b) (hL : L ≤ 256) (hi : i + 4 ≤ L) (hx : xw_R qx ax cx G wx) (hm : mw_R qm am cm G wm) (kk : ∀ (G : jg_G) (wx wm : va_W), xw_R qx ax cx G wx → mw_R qm am cm G wm → jw_J E 4 (wx ++ wm) 722 [(0, .ref b), (1, .ref qx), (2, .ref qm), (3, .int (nI i))] []) : jw_J E 4 (wx ++ wm) 314 [(0, .ref b), (1, .ref qx), (2, .ref qm), (3, .int (nI i))] [] := by
  obtain ⟨kp, lc, o, bs, en, pr, ct, dy, pn, tc, tk, lm, rfl, hr⟩ := hx
  obtain ⟨kp2, lt2, li2, he2, ct2, dy2, pn2, rfl, hr2⟩ := hm
  refine jr_aload_n (pc := 314) C dL_law_314 rfl ?_
  refine jr_aload_n (pc := 315) C dL_law_315 rfl ?_
  refine jr_iload_n (pc := 316) C dL_law_316 rfl ?_
  refine jr_iconst (pc := 317) (v := nI 1) C dL_law_317 (by decide) ?_
  refine jr_iaddN (pc := 318) C dL_law_318 ?_
  refine jl_sld (pc := 319) C hX hbl hbA (by omega) hL dL_law_319 ?_
  refine jr_callL (pc := 320) C hKx gw_L_40 ok_X0_restore (mX_restore hr _) rfl (by decide) (by decide) rfl rfl dL_law_320 rfl (Nat.le_of_ble_eq_true rfl) ?_
  rintro _ wx1 ⟨rfl, hx1⟩
  refine jr_aload_n (pc := 323) C dL_law_323 rfl ?_
  refine jr_aload_n (pc := 324) C dL_law_324 rfl ?_
  refine jr_iload_n (pc := 325) C dL_law_325 rfl ?_
  refine jr_iconst (pc := 326) (v := nI 1) C dL_law_326 (by decide) ?_
  refine jr_iaddN (pc := 327) C dL_law_327 ?_
  refine jl_sld (pc := 328) C hX hbl hbA (by omega) hL dL_law_328 ?_
  refine jr_callR (pc := 329) C hKm gw_L_43 ok_X1_restore (mM_restore hr2 _) rfl (by decide) (by decide) rfl rfl dL_law_329 rfl (Nat.le_of_ble_eq_true rfl) ?_
  rintro _ wm1 ⟨rfl, hm1⟩
  exact jr_icmp_eq (tgt := 722) (pc := 332) C dL_law_332 (by decide) (fun _ => kk _ _ _ hx1 hm1) (fun z => absurd rfl z)
theorem ml_restoreFile (C : jw_C E cL_law 4 R_law [] 7) (hKx : va_K (je_D E) vwCl (tX cx) (je_s E)) (hKm : va_K (je_D E) vwCl (tM cm) (je_s E)) (hX : va_X b L xs (je_s E) (je_s E).heap) (hbl : b < (je_s E).heap.size) (hbA : ¬ je_A E b) (hL : L ≤ 256) (hi : i + 4 ≤ L) (hx : xw_R qx ax cx G wx) (hm : mw_R qm am cm G wm) (kk : ∀ (G : jg_G) (wx wm : va_W), xw_R qx ax cx G wx → mw_R qm am cm G wm → jw_J E 4 (wx ++ wm) 722 [(0, .ref b), (1, .ref qx), (2, .ref qm), (3, .int (nI i))] []) : jw_J E 4 (wx ++ wm) 337 [(0, .ref b), (1, .ref qx), (2, .ref qm), (3, .int (nI i))] [] := by
  obtain ⟨kp, lc, o, bs, en, pr, ct, dy, pn, tc, tk, lm, rfl, hr⟩ := hx
  obtain ⟨kp2, lt2, li2, he2, ct2, dy2, pn2, rfl, hr2⟩ := hm
  refine jr_aload_n (pc := 337) C dL_law_337 rfl ?_
  refine jr_aload_n (pc := 338) C dL_law_338 rfl ?_
  refine jr_iload_n (pc := 339) C dL_law_339 rfl ?_
  refine jr_iconst (pc := 340) (v := nI 1) C dL_law_340 (by decide) ?_
  refine jr_iaddN (pc := 341) C dL_law_341 ?_
  refine jl_sld (pc := 342) C hX hbl hbA (by omega) hL dL_law_342 ?_
  refine jr_aload_n (pc := 343) C dL_law_343 rfl ?_
  refine jr_iload_n (pc := 344) C dL_law_344 rfl ?_
  refine jr_iconst (pc := 345) (v := nI 2) C dL_law_345 (by decide) ?_
  refine jr_iaddN (pc := 346) C dL_law_346 ?_
  refine jl_sld (pc := 347) C hX hbl hbA (by omega) hL dL_law_347 ?_
  refine jr_callL (pc := 348) C hKx gw_L_44 ok_X0_restoreFile (mX_restoreFile hr _ _) rfl (by decide) (by decide) rfl rfl dL_law_348 rfl (Nat.le_of_ble_eq_true rfl) ?_
  rintro _ wx1 ⟨rfl, hx1⟩
  refine jr_aload_n (pc := 351) C dL_law_351 rfl ?_
  refine jr_aload_n (pc := 352) C dL_law_352 rfl ?_
  refine jr_iload_n (pc := 353) C dL_law_353 rfl ?_
  refine jr_iconst (pc := 354) (v := nI 1) C dL_law_354 (by decide) ?_
  refine jr_iaddN (pc := 355) C dL_law_355 ?_
  refine jl_sld (pc := 356) C hX hbl hbA (by omega) hL dL_law_356 ?_
  refine jr_aload_n (pc := 357) C dL_law_357 rfl ?_
  refine jr_iload_n (pc := 358) C dL_law_358 rfl ?_
  refine jr_iconst (pc := 359) (v := nI 2) C dL_law_359 (by decide) ?_
  refine jr_iaddN (pc := 360) C dL_law_360 ?_
  refine jl_sld (pc := 361) C hX hbl hbA (by omega) hL dL_law_361 ?_
  refine jr_callR (pc := 362) C hKm gw_L_47 ok_X1_restoreFile (mM_restoreFile hr2 _ _) rfl (by decide) (by decide) rfl rfl dL_law_362 rfl (Nat.le_of_ble_eq_true rfl) ?_
  rintro _ wm1 ⟨rfl, hm1⟩
  exact jr_icmp_eq (tgt := 722) (pc := 365) C dL_law_365 (by decide) (fun _ => kk _ _ _ hx1 hm1) (fun z => absurd rfl z)
theorem ml_pin (C : jw_C E cL_law 4 R_law [] 7) (hKx : va_K (je_D E) vwCl (tX cx) (je_s E)) (hKm : va_K (je_D E) vwCl (tM cm) (je_s E)) (hX : va_X b L xs (je_s E) (je_s E).heap) (hbl : b < (je_s E).heap.size) (hbA : ¬ je_A E b) (hL : L ≤ 256) (hi : i + 4 ≤ L) (hx : xw_R qx ax cx G wx) (hm : mw_R qm am cm G wm) (kk : ∀ (G : jg_G) (wx wm : va_W), xw_R qx ax cx G wx → mw_R qm am cm G wm → jw_J E 4 (wx ++ wm) 722 [(0, .ref b), (1, .ref qx), (2, .ref qm), (3, .int (nI i))] []) : jw_J E 4 (wx ++ wm) 370 [(0, .ref b), (1, .ref qx), (2, .ref qm), (3, .int (nI i))] [] := by
  obtain ⟨kp, lc, o, bs, en, pr, ct, dy, pn, tc, tk, lm, rfl, hr⟩ := hx
  obtain ⟨kp2, lt2, li2, he2, ct2, dy2, pn2, rfl, hr2⟩ := hm
  refine jr_aload_n (pc := 370) C dL_law_370 rfl ?_
  refine jr_aload_n (pc := 371) C dL_law_371 rfl ?_
  refine jr_iload_n (pc := 372) C dL_law_372 rfl ?_
  refine jr_iconst (pc := 373) (v := nI 1) C dL_law_373 (by decide) ?_
  refine jr_iaddN (pc := 374) C dL_law_374 ?_
  refine jl_sld (pc := 375) C hX hbl hbA (by omega) hL dL_law_375 ?_
  refine jr_aload_n (pc := 376) C dL_law_376 rfl ?_
  refine jr_iload_n (pc := 377) C dL_law_377 rfl ?_
  refine jr_iconst (pc := 378) (v := nI 2) C dL_law_378 (by decide) ?_
  refine jr_iaddN (pc := 379) C dL_law_379 ?_
  refine jl_sld (pc := 380) C hX hbl hbA (by omega) hL dL_law_380 ?_
  refine jr_callL (pc := 381) C hKx gw_L_48 ok_X0_pin (mX_pin hr _ _) rfl (by decide) (by decide) rfl rfl dL_law_381 rfl (Nat.le_of_ble_eq_true rfl) ?_
  rintro _ wx1 ⟨rfl, hx1⟩
  refine jr_aload_n (pc := 384) C dL_law_384 rfl ?_
  refine jr_aload_n (pc := 385) C dL_law_385 rfl ?_
  refine jr_iload_n (pc := 386) C dL_law_386 rfl ?_
  refine jr_iconst (pc := 387) (v := nI 1) C dL_law_387 (by decide) ?_
  refine jr_iaddN (pc := 388) C dL_law_388 ?_
  refine jl_sld (pc := 389) C hX hbl hbA (by omega) hL dL_law_389 ?_
  refine jr_aload_n (pc := 390) C dL_law_390 rfl ?_
  refine jr_iload_n (pc := 391) C dL_law_391 rfl ?_
  refine jr_iconst (pc := 392) (v := nI 2) C dL_law_392 (by decide) ?_
  refine jr_iaddN (pc := 393) C dL_law_393 ?_
  refine jl_sld (pc := 394) C hX hbl hbA (by omega) hL dL_law_394 ?_
  refine jr_callR (pc := 395) C hKm gw_L_51 ok_X1_pin (mM_pin hr2 _ _) rfl (by decide) (by decide) rfl rfl dL_law_395 rfl (Nat.le_of_ble_eq_true rfl) ?_
  rintro _ wm1 ⟨rfl, hm1⟩
  exact jr_icmp_eq (tgt := 722) (pc := 398) C dL_law_398 (by decide) (fun _ => kk _ _ _ hx1 hm1) (fun z => absurd rfl z)
theorem ml_forget (C : jw_C E cL_law 4 R_law [] 7) (hKx : va_K (je_D E) vwCl (tX cx) (je_s E)) (hKm : va_K (je_D E) vwCl (tM cm) (je_s E)) (hX : va_X b L xs (je_s E) (je_s E).heap) (hbl : b < (je_s E).heap.size) (hbA : ¬ je_A E b) (hL : L ≤ 256) (hi : i + 4 ≤ L) (hx : xw_R qx ax cx G wx) (hm : mw_R qm am cm G wm) (kk : ∀ (G : jg_G) (wx wm : va_W), xw_R qx ax cx G wx → mw_R qm am cm G wm → jw_J E 4 (wx ++ wm) 722 [(0, .ref b), (1, .ref qx), (2, .ref qm), (3, .int (nI i))] []) : jw_J E 4 (wx ++ wm) 403 [(0, .ref b), (1, .ref qx), (2, .ref qm), (3, .int (nI i))] [] := by
  obtain ⟨kp, lc, o, bs, en, pr, ct, dy, pn, tc, tk, lm, rfl, hr⟩ := hx
  obtain ⟨kp2, lt2, li2, he2, ct2, dy2, pn2, rfl, hr2⟩ := hm
  refine jr_aload_n (pc := 403) C dL_law_403 rfl ?_
  refine jr_aload_n (pc := 404) C dL_law_404 rfl ?_
  refine jr_iload_n (pc := 405) C dL_law_405 rfl ?_
  refine jr_iconst (pc := 406) (v := nI 1) C dL_law_406 (by decide) ?_
  refine jr_iaddN (pc := 407) C dL_law_407 ?_
  refine jl_sld (pc := 408) C hX hbl hbA (by omega) hL dL_law_408 ?_
  refine jr_callL (pc := 409) C hKx gw_L_52 ok_X0_forget (mX_forget hr _) rfl (by decide) (by decide) rfl rfl dL_law_409 rfl (Nat.le_of_ble_eq_true rfl) ?_
  rintro _ wx1 ⟨rfl, hx1⟩
  refine jr_aload_n (pc := 412) C dL_law_412 rfl ?_
  refine jr_aload_n (pc := 413) C dL_law_413 rfl ?_
  refine jr_iload_n (pc := 414) C dL_law_414 rfl ?_
  refine jr_iconst (pc := 415) (v := nI 1) C dL_law_415 (by decide) ?_
  refine jr_iaddN (pc := 416) C dL_law_416 ?_
  refine jl_sld (pc := 417) C hX hbl hbA (by omega) hL dL_law_417 ?_
  refine jr_callR (pc := 418) C hKm gw_L_55 ok_X1_forget (mM_forget hr2 _) rfl (by decide) (by decide) rfl rfl dL_law_418 rfl (Nat.le_of_ble_eq_true rfl) ?_
  rintro _ wm1 ⟨rfl, hm1⟩
  exact jr_icmp_eq (tgt := 722) (pc := 421) C dL_law_421 (by decide) (fun _ => kk _ _ _ hx1 hm1) (fun z => absurd rfl z)
theorem ml_prune (C : jw_C E cL_law 4 R_law [] 7) (hKx : va_K (je_D E) vwCl (tX cx) (je_s E)) (hKm : va_K (je_D E) vwCl (tM cm) (je_s E)) (hX : va_X b L xs (je_s E) (je_s E).heap) (hbl : b < (je_s E).heap.size) (hbA : ¬ je_A E b) (hL : L ≤ 256) (hi : i + 4 ≤ L) (hx : xw_R qx ax cx G wx) (hm : mw_R qm am cm G wm) (kk : ∀ (G : jg_G) (wx wm : va_W), xw_R qx ax cx G wx → mw_R qm am cm G wm → jw_J E 4 (wx ++ wm) 722 [(0, .ref b), (1, .ref qx), (2, .ref qm), (3, .int (nI i))] []) : jw_J E 4 (wx ++ wm) 426 [(0, .ref b), (1, .ref qx), (2, .ref qm), (3, .int (nI i))] [] := by
  obtain ⟨kp, lc, o, bs, en, pr, ct, dy, pn, tc, tk, lm, rfl, hr⟩ := hx
  obtain ⟨kp2, lt2, li2, he2, ct2, dy2, pn2, rfl, hr2⟩ := hm
  refine jr_aload_n (pc := 426) C dL_law_426 rfl ?_
  refine jr_aload_n (pc := 427) C dL_law_427 rfl ?_
  refine jr_iload_n (pc := 428) C dL_law_428 rfl ?_
  refine jr_iconst (pc := 429) (v := nI 1) C dL_law_429 (by decide) ?_
  refine jr_iaddN (pc := 430) C dL_law_430 ?_
  refine jl_sld (pc := 431) C hX hbl hbA (by omega) hL dL_law_431 ?_
  refine jr_callL (pc := 432) C hKx gw_L_56 ok_X0_prune (mX_prune hr _) rfl (by decide) (by decide) rfl rfl dL_law_432 rfl (Nat.le_of_ble_eq_true rfl) ?_
  rintro _ wx1 ⟨rfl, hx1⟩
  refine jr_aload_n (pc := 435) C dL_law_435 rfl ?_
  refine jr_aload_n (pc := 436) C dL_law_436 rfl ?_
  refine jr_iload_n (pc := 437) C dL_law_437 rfl ?_
  refine jr_iconst (pc := 438) (v := nI 1) C dL_law_438 (by decide) ?_
  refine jr_iaddN (pc := 439) C dL_law_439 ?_
  refine jl_sld (pc := 440) C hX hbl hbA (by omega) hL dL_law_440 ?_
  refine jr_callR (pc := 441) C hKm gw_L_59 ok_X1_prune (mM_prune hr2 _) rfl (by decide) (by decide) rfl rfl dL_law_441 rfl (Nat.le_of_ble_eq_true rfl) ?_
  rintro _ wm1 ⟨rfl, hm1⟩
  exact jr_icmp_eq (tgt := 722) (pc := 444) C dL_law_444 (by decide) (fun _ => kk _ _ _ hx1 hm1) (fun z => absurd rfl z)
theorem ml_points (C : jw_C E cL_law 4 R_law [] 7) (hKx : va_K (je_D E) vwCl (tX cx) (je_s E)) (hKm : va_K (je_D E) vwCl (tM cm) (je_s E)) (hX : va_X b L xs (je_s E) (je_s E).heap) (hbl : b < (je_s E).heap.size) (hbA : ¬ je_A E b) (hL : L ≤ 256) (hi : i + 4 ≤ L) (hx : xw_R qx ax cx G wx) (hm : mw_R qm am cm G wm) (kk : ∀ (G : jg_G) (wx wm : va_W), xw_R qx ax cx G wx → mw_R qm am cm G wm → jw_J E 4 (wx ++ wm) 722 [(0, .ref b), (1, .ref qx), (2, .ref qm), (3, .int (nI i))] []) : jw_J E 4 (wx ++ wm) 449 [(0, .ref b), (1, .ref qx), (2, .ref qm), (3, .int (nI i))] [] := by
  obtain ⟨kp, lc, o, bs, en, pr, ct, dy, pn, tc, tk, lm, rfl, hr⟩ := hx
  obtain ⟨kp2, lt2, li2, he2, ct2, dy2, pn2, rfl, hr2⟩ := hm
  refine jr_aload_n (pc := 449) C dL_law_449 rfl ?_
  refine jr_callL (pc := 450) C hKx gw_L_60 ok_X0_points (mX_points hr) rfl (by decide) (by decide) rfl rfl dL_law_450 rfl (Nat.le_of_ble_eq_true rfl) ?_
  rintro _ wx1 ⟨rfl, hx1⟩
  refine jr_aload_n (pc := 453) C dL_law_453 rfl ?_
  refine jr_callR (pc := 454) C hKm gw_L_64 ok_X1_points (mM_points hr2) rfl (by decide) (by decide) rfl rfl dL_law_454 rfl (Nat.le_of_ble_eq_true rfl) ?_
  rintro _ wm1 ⟨rfl, hm1⟩
  exact jr_icmp_eq (tgt := 722) (pc := 457) C dL_law_457 (by decide) (fun _ => kk _ _ _ hx1 hm1) (fun z => absurd rfl z)
theorem ml_dayOf (C : jw_C E cL_law 4 R_law [] 7) (hKx : va_K (je_D E) vwCl (tX cx) (je_s E)) (hKm : va_K (je_D E) vwCl (tM cm) (je_s E)) (hX : va_X b L xs (je_s E) (je_s E).heap) (hbl : b < (je_s E).heap.size) (hbA : ¬ je_A E b) (hL : L ≤ 256) (hi : i + 4 ≤ L) (hx : xw_R qx ax cx G wx) (hm : mw_R qm am cm G wm) (kk : ∀ (G : jg_G) (wx wm : va_W), xw_R qx ax cx G wx → mw_R qm am cm G wm → jw_J E 4 (wx ++ wm) 722 [(0, .ref b), (1, .ref qx), (2, .ref qm), (3, .int (nI i))] []) : jw_J E 4 (wx ++ wm) 462 [(0, .ref b), (1, .ref qx), (2, .ref qm), (3, .int (nI i))] [] := by
  obtain ⟨kp, lc, o, bs, en, pr, ct, dy, pn, tc, tk, lm, rfl, hr⟩ := hx
  obtain ⟨kp2, lt2, li2, he2, ct2, dy2, pn2, rfl, hr2⟩ := hm
  refine jr_aload_n (pc := 462) C dL_law_462 rfl ?_
  refine jr_aload_n (pc := 463) C dL_law_463 rfl ?_
  refine jr_iload_n (pc := 464) C dL_law_464 rfl ?_
  refine jr_iconst (pc := 465) (v := nI 1) C dL_law_465 (by decide) ?_
  refine jr_iaddN (pc := 466) C dL_law_466 ?_
  refine jl_sld (pc := 467) C hX hbl hbA (by omega) hL dL_law_467 ?_
  refine jr_callL (pc := 468) C hKx gw_L_65 ok_X0_dayOf (mX_dayOf hr _) rfl (by decide) (by decide) rfl rfl dL_law_468 rfl (Nat.le_of_ble_eq_true rfl) ?_
  rintro _ wx1 ⟨rfl, hx1⟩
  refine jr_aload_n (pc := 471) C dL_law_471 rfl ?_
  refine jr_aload_n (pc := 472) C dL_law_472 rfl ?_
  refine jr_iload_n (pc := 473) C dL_law_473 rfl ?_
  refine jr_iconst (pc := 474) (v := nI 1) C dL_law_474 (by decide) ?_
  refine jr_iaddN (pc := 475) C dL_law_475 ?_
  refine jl_sld (pc := 476) C hX hbl hbA (by omega) hL dL_law_476 ?_
  refine jr_callR (pc := 477) C hKm gw_L_68 ok_X1_dayOf (mM_dayOf hr2 _) rfl (by decide) (by decide) rfl rfl dL_law_477 rfl (Nat.le_of_ble_eq_true rfl) ?_
  rintro _ wm1 ⟨rfl, hm1⟩
  exact jr_icmp_eq (tgt := 722) (pc := 480) C dL_law_480 (by decide) (fun _ => kk _ _ _ hx1 hm1) (fun z => absurd rfl z)
theorem ml_pinned (C : jw_C E cL_law 4 R_law [] 7) (hKx : va_K (je_D E) vwCl (tX cx) (je_s E)) (hKm : va_K (je_D E) vwCl (tM cm) (je_s E)) (hX : va_X b L xs (je_s E) (je_s E).heap) (hbl : b < (je_s E).heap.size) (hbA : ¬ je_A E b) (hL : L ≤ 256) (hi : i + 4 ≤ L) (hx : xw_R qx ax cx G wx) (hm : mw_R qm am cm G wm) (kk : ∀ (G : jg_G) (wx wm : va_W), xw_R qx ax cx G wx → mw_R qm am cm G wm → jw_J E 4 (wx ++ wm) 722 [(0, .ref b), (1, .ref qx), (2, .ref qm), (3, .int (nI i))] []) : jw_J E 4 (wx ++ wm) 485 [(0, .ref b), (1, .ref qx), (2, .ref qm), (3, .int (nI i))] [] := by
  obtain ⟨kp, lc, o, bs, en, pr, ct, dy, pn, tc, tk, lm, rfl, hr⟩ := hx
  obtain ⟨kp2, lt2, li2, he2, ct2, dy2, pn2, rfl, hr2⟩ := hm
  refine jr_aload_n (pc := 485) C dL_law_485 rfl ?_
  refine jr_aload_n (pc := 486) C dL_law_486 rfl ?_
  refine jr_iload_n (pc := 487) C dL_law_487 rfl ?_
  refine jr_iconst (pc := 488) (v := nI 1) C dL_law_488 (by decide) ?_
  refine jr_iaddN (pc := 489) C dL_law_489 ?_
  refine jl_sld (pc := 490) C hX hbl hbA (by omega) hL dL_law_490 ?_
  refine jr_callL (pc := 491) C hKx gw_L_69 ok_X0_pinned (mX_pinned hr _) rfl (by decide) (by decide) rfl rfl dL_law_491 rfl (Nat.le_of_ble_eq_true rfl) ?_
  rintro _ wx1 ⟨rfl, hx1⟩
  refine jr_aload_n (pc := 494) C dL_law_494 rfl ?_
  refine jr_aload_n (pc := 495) C dL_law_495 rfl ?_
  refine jr_iload_n (pc := 496) C dL_law_496 rfl ?_
  refine jr_iconst (pc := 497) (v := nI 1) C dL_law_497 (by decide) ?_
  refine jr_iaddN (pc := 498) C dL_law_498 ?_
  refine jl_sld (pc := 499) C hX hbl hbA (by omega) hL dL_law_499 ?_
  refine jr_callR (pc := 500) C hKm gw_L_72 ok_X1_pinned (mM_pinned hr2 _) rfl (by decide) (by decide) rfl rfl dL_law_500 rfl (Nat.le_of_ble_eq_true rfl) ?_
  rintro _ wm1 ⟨rfl, hm1⟩
  exact jr_icmp_eq (tgt := 722) (pc := 503) C dL_law_503 (by decide) (fun _ => kk _ _ _ hx1 hm1) (fun z => absurd rfl z)
theorem ml_there (C : jw_C E cL_law 4 R_law [] 7) (hKx : va_K (je_D E) vwCl (tX cx) (je_s E)) (hKm : va_K (je_D E) vwCl (tM cm) (je_s E)) (hX : va_X b L xs (je_s E) (je_s E).heap) (hbl : b < (je_s E).heap.size) (hbA : ¬ je_A E b) (hL : L ≤ 256) (hi : i + 4 ≤ L) (hx : xw_R qx ax cx G wx) (hm : mw_R qm am cm G wm) (kk : ∀ (G : jg_G) (wx wm : va_W), xw_R qx ax cx G wx → mw_R qm am cm G wm → jw_J E 4 (wx ++ wm) 722 [(0, .ref b), (1, .ref qx), (2, .ref qm), (3, .int (nI i))] []) : jw_J E 4 (wx ++ wm) 508 [(0, .ref b), (1, .ref qx), (2, .ref qm), (3, .int (nI i))] [] := by
  obtain ⟨kp, lc, o, bs, en, pr, ct, dy, pn, tc, tk, lm, rfl, hr⟩ := hx
  obtain ⟨kp2, lt2, li2, he2, ct2, dy2, pn2, rfl, hr2⟩ := hm
  refine jr_aload_n (pc := 508) C dL_law_508 rfl ?_
  refine jr_aload_n (pc := 509) C dL_law_509 rfl ?_
  refine jr_iload_n (pc := 510) C dL_law_510 rfl ?_
  refine jr_iconst (pc := 511) (v := nI 1) C dL_law_511 (by decide) ?_
  refine jr_iaddN (pc := 512) C dL_law_512 ?_
  refine jl_sld (pc := 513) C hX hbl hbA (by omega) hL dL_law_513 ?_
  refine jr_aload_n (pc := 514) C dL_law_514 rfl ?_
  refine jr_iload_n (pc := 515) C dL_law_515 rfl ?_
  refine jr_iconst (pc := 516) (v := nI 2) C dL_law_516 (by decide) ?_
  refine jr_iaddN (pc := 517) C dL_law_517 ?_
  refine jl_sld (pc := 518) C hX hbl hbA (by omega) hL dL_law_518 ?_
  refine jr_callL (pc := 519) C hKx gw_L_73 ok_X0_there (mX_there hr _ _) rfl (by decide) (by decide) rfl rfl dL_law_519 rfl (Nat.le_of_ble_eq_true rfl) ?_
  rintro _ wx1 ⟨rfl, hx1⟩
  refine jr_aload_n (pc := 522) C dL_law_522 rfl ?_
  refine jr_aload_n (pc := 523) C dL_law_523 rfl ?_
  refine jr_iload_n (pc := 524) C dL_law_524 rfl ?_
  refine jr_iconst (pc := 525) (v := nI 1) C dL_law_525 (by decide) ?_
  refine jr_iaddN (pc := 526) C dL_law_526 ?_
  refine jl_sld (pc := 527) C hX hbl hbA (by omega) hL dL_law_527 ?_
  refine jr_aload_n (pc := 528) C dL_law_528 rfl ?_
  refine jr_iload_n (pc := 529) C dL_law_529 rfl ?_
  refine jr_iconst (pc := 530) (v := nI 2) C dL_law_530 (by decide) ?_
  refine jr_iaddN (pc := 531) C dL_law_531 ?_
  refine jl_sld (pc := 532) C hX hbl hbA (by omega) hL dL_law_532 ?_
  refine jr_callR (pc := 533) C hKm gw_L_76 ok_X1_there (mM_there hr2 _ _) rfl (by decide) (by decide) rfl rfl dL_law_533 rfl (Nat.le_of_ble_eq_true rfl) ?_
  rintro _ wm1 ⟨rfl, hm1⟩
  exact jr_icmp_eq (tgt := 722) (pc := 536) C dL_law_536 (by decide) (fun _ => kk _ _ _ hx1 hm1) (fun z => absurd rfl z)
theorem ml_content (C : jw_C E cL_law 4 R_law [] 7) (hKx : va_K (je_D E) vwCl (tX cx) (je_s E)) (hKm : va_K (je_D E) vwCl (tM cm) (je_s E)) (hX : va_X b L xs (je_s E) (je_s E).heap) (hbl : b < (je_s E).heap.size) (hbA : ¬ je_A E b) (hL : L ≤ 256) (hi : i + 4 ≤ L) (hx : xw_R qx ax cx G wx) (hm : mw_R qm am cm G wm) (kk : ∀ (G : jg_G) (wx wm : va_W), xw_R qx ax cx G wx → mw_R qm am cm G wm → jw_J E 4 (wx ++ wm) 722 [(0, .ref b), (1, .ref qx), (2, .ref qm), (3, .int (nI i))] []) : jw_J E 4 (wx ++ wm) 541 [(0, .ref b), (1, .ref qx), (2, .ref qm), (3, .int (nI i))] [] := by
  obtain ⟨kp, lc, o, bs, en, pr, ct, dy, pn, tc, tk, lm, rfl, hr⟩ := hx
  obtain ⟨kp2, lt2, li2, he2, ct2, dy2, pn2, rfl, hr2⟩ := hm
  refine jr_aload_n (pc := 541) C dL_law_541 rfl ?_
  refine jr_aload_n (pc := 542) C dL_law_542 rfl ?_
  refine jr_iload_n (pc := 543) C dL_law_543 rfl ?_
  refine jr_iconst (pc := 544) (v := nI 1) C dL_law_544 (by decide) ?_
  refine jr_iaddN (pc := 545) C dL_law_545 ?_
  refine jl_sld (pc := 546) C hX hbl hbA (by omega) hL dL_law_546 ?_
  refine jr_aload_n (pc := 547) C dL_law_547 rfl ?_
  refine jr_iload_n (pc := 548) C dL_law_548 rfl ?_
  refine jr_iconst (pc := 549) (v := nI 2) C dL_law_549 (by decide) ?_
  refine jr_iaddN (pc := 550) C dL_law_550 ?_
  refine jl_sld (pc := 551) C hX hbl hbA (by omega) hL dL_law_551 ?_
  refine jr_callL (pc := 552) C hKx gw_L_77 ok_X0_content (mX_content hr _ _) rfl (by decide) (by decide) rfl rfl dL_law_552 rfl (Nat.le_of_ble_eq_true rfl) ?_
  rintro _ wx1 ⟨rfl, hx1⟩
  refine jr_aload_n (pc := 555) C dL_law_555 rfl ?_
  refine jr_aload_n (pc := 556) C dL_law_556 rfl ?_
  refine jr_iload_n (pc := 557) C dL_law_557 rfl ?_
  refine jr_iconst (pc := 558) (v := nI 1) C dL_law_558 (by decide) ?_
  refine jr_iaddN (pc := 559) C dL_law_559 ?_
  refine jl_sld (pc := 560) C hX hbl hbA (by omega) hL dL_law_560 ?_
  refine jr_aload_n (pc := 561) C dL_law_561 rfl ?_
  refine jr_iload_n (pc := 562) C dL_law_562 rfl ?_
  refine jr_iconst (pc := 563) (v := nI 2) C dL_law_563 (by decide) ?_
  refine jr_iaddN (pc := 564) C dL_law_564 ?_
  refine jl_sld (pc := 565) C hX hbl hbA (by omega) hL dL_law_565 ?_
  refine jr_callR (pc := 566) C hKm gw_L_80 ok_X1_content (mM_content hr2 _ _) rfl (by decide) (by decide) rfl rfl dL_law_566 rfl (Nat.le_of_ble_eq_true rfl) ?_
  rintro _ wm1 ⟨rfl, hm1⟩
  exact jr_icmp_eq (tgt := 722) (pc := 569) C dL_law_569 (by decide) (fun _ => kk _ _ _ hx1 hm1) (fun z => absurd rfl z)
theorem ml_liveThere (C : jw_C E cL_law 4 R_law [] 7) (hKx : va_K (je_D E) vwCl (tX cx) (je_s E)) (hKm : va_K (je_D E) vwCl (tM cm) (je_s E)) (hX : va_X b L xs (je_s E) (je_s E).heap) (hbl : b < (je_s E).heap.size) (hbA : ¬ je_A E b) (hL : L ≤ 256) (hi : i + 4 ≤ L) (hx : xw_R qx ax cx G wx) (hm : mw_R qm am cm G wm) (kk : ∀ (G : jg_G) (wx wm : va_W), xw_R qx ax cx G wx → mw_R qm am cm G wm → jw_J E 4 (wx ++ wm) 722 [(0, .ref b), (1, .ref qx), (2, .ref qm), (3, .int (nI i))] []) : jw_J E 4 (wx ++ wm) 574 [(0, .ref b), (1, .ref qx), (2, .ref qm), (3, .int (nI i))] [] := by
  obtain ⟨kp, lc, o, bs, en, pr, ct, dy, pn, tc, tk, lm, rfl, hr⟩ := hx
  obtain ⟨kp2, lt2, li2, he2, ct2, dy2, pn2, rfl, hr2⟩ := hm
  refine jr_aload_n (pc := 574) C dL_law_574 rfl ?_
  refine jr_aload_n (pc := 575) C dL_law_575 rfl ?_
  refine jr_iload_n (pc := 576) C dL_law_576 rfl ?_
  refine jr_iconst (pc := 577) (v := nI 1) C dL_law_577 (by decide) ?_
  refine jr_iaddN (pc := 578) C dL_law_578 ?_
  refine jl_sld (pc := 579) C hX hbl hbA (by omega) hL dL_law_579 ?_
  refine jr_callL (pc := 580) C hKx gw_L_81 ok_X0_liveThere (mX_liveThere hr _) rfl (by decide) (by decide) rfl rfl dL_law_580 rfl (Nat.le_of_ble_eq_true rfl) ?_
  rintro _ wx1 ⟨rfl, hx1⟩
  refine jr_aload_n (pc := 583) C dL_law_583 rfl ?_
  refine jr_aload_n (pc := 584) C dL_law_584 rfl ?_
  refine jr_iload_n (pc := 585) C dL_law_585 rfl ?_
  refine jr_iconst (pc := 586) (v := nI 1) C dL_law_586 (by decide) ?_
  refine jr_iaddN (pc := 587) C dL_law_587 ?_
  refine jl_sld (pc := 588) C hX hbl hbA (by omega) hL dL_law_588 ?_
  refine jr_callR (pc := 589) C hKm gw_L_84 ok_X1_liveThere (mM_liveThere hr2 _) rfl (by decide) (by decide) rfl rfl dL_law_589 rfl (Nat.le_of_ble_eq_true rfl) ?_
  rintro _ wm1 ⟨rfl, hm1⟩
  exact jr_icmp_eq (tgt := 722) (pc := 592) C dL_law_592 (by decide) (fun _ => kk _ _ _ hx1 hm1) (fun z => absurd rfl z)
theorem ml_live (C : jw_C E cL_law 4 R_law [] 7) (hKx : va_K (je_D E) vwCl (tX cx) (je_s E)) (hKm : va_K (je_D E) vwCl (tM cm) (je_s E)) (hX : va_X b L xs (je_s E) (je_s E).heap) (hbl : b < (je_s E).heap.size) (hbA : ¬ je_A E b) (hL : L ≤ 256) (hi : i + 4 ≤ L) (hx : xw_R qx ax cx G wx) (hm : mw_R qm am cm G wm) (kk : ∀ (G : jg_G) (wx wm : va_W), xw_R qx ax cx G wx → mw_R qm am cm G wm → jw_J E 4 (wx ++ wm) 722 [(0, .ref b), (1, .ref qx), (2, .ref qm), (3, .int (nI i))] []) : jw_J E 4 (wx ++ wm) 597 [(0, .ref b), (1, .ref qx), (2, .ref qm), (3, .int (nI i))] [] := by
  obtain ⟨kp, lc, o, bs, en, pr, ct, dy, pn, tc, tk, lm, rfl, hr⟩ := hx
  obtain ⟨kp2, lt2, li2, he2, ct2, dy2, pn2, rfl, hr2⟩ := hm
  refine jr_aload_n (pc := 597) C dL_law_597 rfl ?_
  refine jr_aload_n (pc := 598) C dL_law_598 rfl ?_
  refine jr_iload_n (pc := 599) C dL_law_599 rfl ?_
  refine jr_iconst (pc := 600) (v := nI 1) C dL_law_600 (by decide) ?_
  refine jr_iaddN (pc := 601) C dL_law_601 ?_
  refine jl_sld (pc := 602) C hX hbl hbA (by omega) hL dL_law_602 ?_
  refine jr_callL (pc := 603) C hKx gw_L_85 ok_X0_live (mX_live hr _) rfl (by decide) (by decide) rfl rfl dL_law_603 rfl (Nat.le_of_ble_eq_true rfl) ?_
  rintro _ wx1 ⟨rfl, hx1⟩
  refine jr_aload_n (pc := 606) C dL_law_606 rfl ?_
  refine jr_aload_n (pc := 607) C dL_law_607 rfl ?_
  refine jr_iload_n (pc := 608) C dL_law_608 rfl ?_
  refine jr_iconst (pc := 609) (v := nI 1) C dL_law_609 (by decide) ?_
  refine jr_iaddN (pc := 610) C dL_law_610 ?_
  refine jl_sld (pc := 611) C hX hbl hbA (by omega) hL dL_law_611 ?_
  refine jr_callR (pc := 612) C hKm gw_L_88 ok_X1_live (mM_live hr2 _) rfl (by decide) (by decide) rfl rfl dL_law_612 rfl (Nat.le_of_ble_eq_true rfl) ?_
  rintro _ wm1 ⟨rfl, hm1⟩
  exact jr_icmp_eq (tgt := 722) (pc := 615) C dL_law_615 (by decide) (fun _ => kk _ _ _ hx1 hm1) (fun z => absurd rfl z)
theorem ml_differing (C : jw_C E cL_law 4 R_law [] 7) (hKx : va_K (je_D E) vwCl (tX cx) (je_s E)) (hKm : va_K (je_D E) vwCl (tM cm) (je_s E)) (hX : va_X b L xs (je_s E) (je_s E).heap) (hbl : b < (je_s E).heap.size) (hbA : ¬ je_A E b) (hL : L ≤ 256) (hi : i + 4 ≤ L) (hx : xw_R qx ax cx G wx) (hm : mw_R qm am cm G wm) (kk : ∀ (G : jg_G) (wx wm : va_W), xw_R qx ax cx G wx → mw_R qm am cm G wm → jw_J E 4 (wx ++ wm) 722 [(0, .ref b), (1, .ref qx), (2, .ref qm), (3, .int (nI i))] []) : jw_J E 4 (wx ++ wm) 620 [(0, .ref b), (1, .ref qx), (2, .ref qm), (3, .int (nI i))] [] := by
  obtain ⟨kp, lc, o, bs, en, pr, ct, dy, pn, tc, tk, lm, rfl, hr⟩ := hx
  obtain ⟨kp2, lt2, li2, he2, ct2, dy2, pn2, rfl, hr2⟩ := hm
  refine jr_aload_n (pc := 620) C dL_law_620 rfl ?_
  refine jr_aload_n (pc := 621) C dL_law_621 rfl ?_
  refine jr_iload_n (pc := 622) C dL_law_622 rfl ?_
  refine jr_iconst (pc := 623) (v := nI 1) C dL_law_623 (by decide) ?_
  refine jr_iaddN (pc := 624) C dL_law_624 ?_
  refine jl_sld (pc := 625) C hX hbl hbA (by omega) hL dL_law_625 ?_
  refine jr_aload_n (pc := 626) C dL_law_626 rfl ?_
  refine jr_iload_n (pc := 627) C dL_law_627 rfl ?_
  refine jr_iconst (pc := 628) (v := nI 2) C dL_law_628 (by decide) ?_
  refine jr_iaddN (pc := 629) C dL_law_629 ?_
  refine jl_sld (pc := 630) C hX hbl hbA (by omega) hL dL_law_630 ?_
  refine jr_callL (pc := 631) C hKx gw_L_89 ok_X0_differing (mX_differing hr _ _) rfl (by decide) (by decide) rfl rfl dL_law_631 rfl (Nat.le_of_ble_eq_true rfl) ?_
  rintro _ wx1 ⟨rfl, hx1⟩
  refine jr_aload_n (pc := 634) C dL_law_634 rfl ?_
  refine jr_aload_n (pc := 635) C dL_law_635 rfl ?_
  refine jr_iload_n (pc := 636) C dL_law_636 rfl ?_
  refine jr_iconst (pc := 637) (v := nI 1) C dL_law_637 (by decide) ?_
  refine jr_iaddN (pc := 638) C dL_law_638 ?_
  refine jl_sld (pc := 639) C hX hbl hbA (by omega) hL dL_law_639 ?_
  refine jr_aload_n (pc := 640) C dL_law_640 rfl ?_
  refine jr_iload_n (pc := 641) C dL_law_641 rfl ?_
  refine jr_iconst (pc := 642) (v := nI 2) C dL_law_642 (by decide) ?_
  refine jr_iaddN (pc := 643) C dL_law_643 ?_
  refine jl_sld (pc := 644) C hX hbl hbA (by omega) hL dL_law_644 ?_
  refine jr_callR (pc := 645) C hKm gw_L_92 ok_X1_differing (mM_differing hr2 _ _) rfl (by decide) (by decide) rfl rfl dL_law_645 rfl (Nat.le_of_ble_eq_true rfl) ?_
  rintro _ wm1 ⟨rfl, hm1⟩
  exact jr_icmp_eq (tgt := 722) (pc := 648) C dL_law_648 (by decide) (fun _ => kk _ _ _ hx1 hm1) (fun z => absurd rfl z)
theorem ml_changedSince (C : jw_C E cL_law 4 R_law [] 7) (hKx : va_K (je_D E) vwCl (tX cx) (je_s E)) (hKm : va_K (je_D E) vwCl (tM cm) (je_s E)) (hX : va_X b L xs (je_s E) (je_s E).heap) (hbl : b < (je_s E).heap.size) (hbA : ¬ je_A E b) (hL : L ≤ 256) (hi : i + 4 ≤ L) (hx : xw_R qx ax cx G wx) (hm : mw_R qm am cm G wm) (kk : ∀ (G : jg_G) (wx wm : va_W), xw_R qx ax cx G wx → mw_R qm am cm G wm → jw_J E 4 (wx ++ wm) 722 [(0, .ref b), (1, .ref qx), (2, .ref qm), (3, .int (nI i))] []) : jw_J E 4 (wx ++ wm) 653 [(0, .ref b), (1, .ref qx), (2, .ref qm), (3, .int (nI i))] [] := by
  obtain ⟨kp, lc, o, bs, en, pr, ct, dy, pn, tc, tk, lm, rfl, hr⟩ := hx
  obtain ⟨kp2, lt2, li2, he2, ct2, dy2, pn2, rfl, hr2⟩ := hm
  refine jr_aload_n (pc := 653) C dL_law_653 rfl ?_
  refine jr_aload_n (pc := 654) C dL_law_654 rfl ?_
  refine jr_iload_n (pc := 655) C dL_law_655 rfl ?_
  refine jr_iconst (pc := 656) (v := nI 1) C dL_law_656 (by decide) ?_
  refine jr_iaddN (pc := 657) C dL_law_657 ?_
  refine jl_sld (pc := 658) C hX hbl hbA (by omega) hL dL_law_658 ?_
  refine jr_callL (pc := 659) C hKx gw_L_93 ok_X0_changedSince (mX_changedSince hr _) rfl (by decide) (by decide) rfl rfl dL_law_659 rfl (Nat.le_of_ble_eq_true rfl) ?_
  rintro _ wx1 ⟨rfl, hx1⟩
  refine jr_aload_n (pc := 662) C dL_law_662 rfl ?_
  refine jr_aload_n (pc := 663) C dL_law_663 rfl ?_
  refine jr_iload_n (pc := 664) C dL_law_664 rfl ?_
  refine jr_iconst (pc := 665) (v := nI 1) C dL_law_665 (by decide) ?_
  refine jr_iaddN (pc := 666) C dL_law_666 ?_
  refine jl_sld (pc := 667) C hX hbl hbA (by omega) hL dL_law_667 ?_
  refine jr_callR (pc := 668) C hKm gw_L_96 ok_X1_changedSince (mM_changedSince hr2 _) rfl (by decide) (by decide) rfl rfl dL_law_668 rfl (Nat.le_of_ble_eq_true rfl) ?_
  rintro _ wm1 ⟨rfl, hm1⟩
  exact jr_icmp_eq (tgt := 722) (pc := 671) C dL_law_671 (by decide) (fun _ => kk _ _ _ hx1 hm1) (fun z => absurd rfl z)
theorem ml_versions (C : jw_C E cL_law 4 R_law [] 7) (hKx : va_K (je_D E) vwCl (tX cx) (je_s E)) (hKm : va_K (je_D E) vwCl (tM cm) (je_s E)) (hX : va_X b L xs (je_s E) (je_s E).heap) (hbl : b < (je_s E).heap.size) (hbA : ¬ je_A E b) (hL : L ≤ 256) (hi : i + 4 ≤ L) (hx : xw_R qx ax cx G wx) (hm : mw_R qm am cm G wm) (kk : ∀ (G : jg_G) (wx wm : va_W), xw_R qx ax cx G wx → mw_R qm am cm G wm → jw_J E 4 (wx ++ wm) 722 [(0, .ref b), (1, .ref qx), (2, .ref qm), (3, .int (nI i))] []) : jw_J E 4 (wx ++ wm) 676 [(0, .ref b), (1, .ref qx), (2, .ref qm), (3, .int (nI i))] [] := by
  obtain ⟨kp, lc, o, bs, en, pr, ct, dy, pn, tc, tk, lm, rfl, hr⟩ := hx
  obtain ⟨kp2, lt2, li2, he2, ct2, dy2, pn2, rfl, hr2⟩ := hm
  refine jr_aload_n (pc := 676) C dL_law_676 rfl ?_
  refine jr_aload_n (pc := 677) C dL_law_677 rfl ?_
  refine jr_iload_n (pc := 678) C dL_law_678 rfl ?_
  refine jr_iconst (pc := 679) (v := nI 1) C dL_law_679 (by decide) ?_
  refine jr_iaddN (pc := 680) C dL_law_680 ?_
  refine jl_sld (pc := 681) C hX hbl hbA (by omega) hL dL_law_681 ?_
  refine jr_callL (pc := 682) C hKx gw_L_97 ok_X0_versions (mX_versions hr _) rfl (by decide) (by decide) rfl rfl dL_law_682 rfl (Nat.le_of_ble_eq_true rfl) ?_
  rintro _ wx1 ⟨rfl, hx1⟩
  refine jr_aload_n (pc := 685) C dL_law_685 rfl ?_
  refine jr_aload_n (pc := 686) C dL_law_686 rfl ?_
  refine jr_iload_n (pc := 687) C dL_law_687 rfl ?_
  refine jr_iconst (pc := 688) (v := nI 1) C dL_law_688 (by decide) ?_
  refine jr_iaddN (pc := 689) C dL_law_689 ?_
  refine jl_sld (pc := 690) C hX hbl hbA (by omega) hL dL_law_690 ?_
  refine jr_callR (pc := 691) C hKm gw_L_100 ok_X1_versions (mM_versions hr2 _) rfl (by decide) (by decide) rfl rfl dL_law_691 rfl (Nat.le_of_ble_eq_true rfl) ?_
  rintro _ wm1 ⟨rfl, hm1⟩
  exact jr_icmp_eq (tgt := 722) (pc := 694) C dL_law_694 (by decide) (fun _ => kk _ _ _ hx1 hm1) (fun z => absurd rfl z)
theorem ml_sum (C : jw_C E cL_law 4 R_law [] 7) (hKx : va_K (je_D E) vwCl (tX cx) (je_s E)) (hKm : va_K (je_D E) vwCl (tM cm) (je_s E)) (hX : va_X b L xs (je_s E) (je_s E).heap) (hbl : b < (je_s E).heap.size) (hbA : ¬ je_A E b) (hL : L ≤ 256) (hi : i + 4 ≤ L) (hx : xw_R qx ax cx G wx) (hm : mw_R qm am cm G wm) (kk : ∀ (G : jg_G) (wx wm : va_W), xw_R qx ax cx G wx → mw_R qm am cm G wm → jw_J E 4 (wx ++ wm) 722 [(0, .ref b), (1, .ref qx), (2, .ref qm), (3, .int (nI i))] []) : jw_J E 4 (wx ++ wm) 699 [(0, .ref b), (1, .ref qx), (2, .ref qm), (3, .int (nI i))] [] := by
  obtain ⟨kp, lc, o, bs, en, pr, ct, dy, pn, tc, tk, lm, rfl, hr⟩ := hx
  obtain ⟨kp2, lt2, li2, he2, ct2, dy2, pn2, rfl, hr2⟩ := hm
  refine jr_aload_n (pc := 699) C dL_law_699 rfl ?_
  refine jr_aload_n (pc := 700) C dL_law_700 rfl ?_
  refine jr_iload_n (pc := 701) C dL_law_701 rfl ?_
  refine jr_iconst (pc := 702) (v := nI 1) C dL_law_702 (by decide) ?_
  refine jr_iaddN (pc := 703) C dL_law_703 ?_
  refine jl_sld (pc := 704) C hX hbl hbA (by omega) hL dL_law_704 ?_
  refine jr_callL (pc := 705) C hKx gw_L_101 ok_X0_sum (mX_sum hr _) rfl (by decide) (by decide) rfl rfl dL_law_705 rfl (Nat.le_of_ble_eq_true rfl) ?_
  rintro _ wx1 ⟨rfl, hx1⟩
  refine jr_aload_n (pc := 708) C dL_law_708 rfl ?_
  refine jr_aload_n (pc := 709) C dL_law_709 rfl ?_
  refine jr_iload_n (pc := 710) C dL_law_710 rfl ?_
  refine jr_iconst (pc := 711) (v := nI 1) C dL_law_711 (by decide) ?_
  refine jr_iaddN (pc := 712) C dL_law_712 ?_
  refine jl_sld (pc := 713) C hX hbl hbA (by omega) hL dL_law_713 ?_
  refine jr_callR (pc := 714) C hKm gw_L_104 ok_X1_sum (mM_sum hr2 _) rfl (by decide) (by decide) rfl rfl dL_law_714 rfl (Nat.le_of_ble_eq_true rfl) ?_
  rintro _ wm1 ⟨rfl, hm1⟩
  exact jr_icmp_eq (tgt := 722) (pc := 717) C dL_law_717 (by decide) (fun _ => kk _ _ _ hx1 hm1) (fun z => absurd rfl z)
end
end
section
/-! the law: its loop -/
set_option maxRecDepth 100000
theorem ml_loop {E : je_E} {L b : Nat} {xs : Nat → Int32} {qx qm : Nat} {ax am : Nat → Nat} {cx cm : Nat → ClassId} (C : jw_C E cL_law 4 R_law [] 7) (hKx : va_K (je_D E) vwCl (tX cx) (je_s E)) (hKm : va_K (je_D E) vwCl (tM cm) (je_s E)) (hX : va_X b L xs (je_s E) (je_s E).heap) (hbl : b < (je_s E).heap.size) (hbA : ¬ je_A E b) (hL : L ≤ 256) (hend : ∀ w lv, jw_J E 4 w 728 lv []) : ∀ (k i : Nat), i ≤ L → L < i + 4 * k + 4 → ∀ (G : jg_G) (wx wm : va_W), xw_R qx ax cx G wx → mw_R qm am cm G wm → jw_J E 4 (wx ++ wm) 18 [(0, .ref b), (1, .ref qx), (2, .ref qm), (3, .int (nI i))] [] := by
  intro k
  induction k with
  | zero =>
    intro i hi hk G wx wm hx hm
    refine jr_iload_n (pc := 18) C dL_law_18 rfl ?_
    refine jr_aload_n (pc := 19) C dL_law_19 rfl ?_
    refine jl_slen (pc := 20) C hX hbl hbA dL_law_20 ?_
    refine jr_iconst (pc := 21) (v := nI 4) C dL_law_21 (by decide) ?_
    refine jr_isub (pc := 22) C dL_law_22 ?_
    exact jr_icmp_gt (tgt := 728) (pc := 23) C dL_law_23 (by decide) (fun _ => hend _ _) (fun z => absurd ((jl_gt hL (by omega)).mpr (by omega)) z)
  | succ k ih =>
    intro i hi hk G wx wm hx hm
    refine jr_iload_n (pc := 18) C dL_law_18 rfl ?_
    refine jr_aload_n (pc := 19) C dL_law_19 rfl ?_
    refine jl_slen (pc := 20) C hX hbl hbA dL_law_20 ?_
    refine jr_iconst (pc := 21) (v := nI 4) C dL_law_21 (by decide) ?_
    refine jr_isub (pc := 22) C dL_law_22 ?_
    refine jr_icmp_gt (tgt := 728) (pc := 23) C dL_law_23 (by decide) (fun _ => hend _ _) (fun c_23 => ?_)
    have hi4 : i + 4 ≤ L := Nat.not_lt.mp (fun z => c_23 ((jl_gt hL (by omega)).mpr z))
    refine jr_aload_n (pc := 26) C dL_law_26 rfl ?_
    refine jr_iload_n (pc := 27) C dL_law_27 rfl ?_
    refine jl_sld (pc := 28) C hX hbl hbA (by omega) hL dL_law_28 ?_
    refine jr_bipush (pc := 29) (v := nI 31) C dL_law_29 (by decide) ?_
    refine jr_iand (pc := 31) C dL_law_31 ?_
    obtain ⟨j, hj, ej⟩ := pk_andE (xs i) (m := nI 31) 5 (by decide)
    refine jr_top ej ?_
    have kk : ∀ (G : jg_G) (wx wm : va_W), xw_R qx ax cx G wx → mw_R qm am cm G wm → jw_J E 4 (wx ++ wm) 722 [(0, .ref b), (1, .ref qx), (2, .ref qm), (3, .int (nI i))] [] := by
      intro G wx wm hx hm
      refine jr_iincv (pc := 722) C dL_law_722 rfl (jl_4 i) (by decide) rfl ?_
      refine jr_goto (tgt := 18) (pc := 725) C dL_law_725 (by decide) ?_
      exact ih (i + 4) hi4 (by omega) G wx wm hx hm
    match j, hj with
    | 0, _ => exact jl_tab (pc := 32) (tgt := 136) C dL_law_32 (by decide) rfl (by decide) (ml_put C hKx hKm hX hbl hbA hL hi4 hx hm kk)
    | 1, _ => exact jl_tab (pc := 32) (tgt := 169) C dL_law_32 (by decide) rfl (by decide) (ml_delete C hKx hKm hX hbl hbA hL hi4 hx hm kk)
    | 2, _ => exact jl_tab (pc := 32) (tgt := 192) C dL_law_32 (by decide) rfl (by decide) (ml_rename C hKx hKm hX hbl hbA hL hi4 hx hm kk)
    | 3, _ => exact jl_tab (pc := 32) (tgt := 225) C dL_law_32 (by decide) rfl (by decide) (ml_rewrite C hKx hKm hX hbl hbA hL hi4 hx hm kk)
    | 4, _ => exact jl_tab (pc := 32) (tgt := 268) C dL_law_32 (by decide) rfl (by decide) (ml_advance C hKx hKm hX hbl hbA hL hi4 hx hm kk)
    | 5, _ => exact jl_tab (pc := 32) (tgt := 291) C dL_law_32 (by decide) rfl (by decide) (ml_take C hKx hKm hX hbl hbA hL hi4 hx hm kk)
    | 6, _ => exact jl_tab (pc := 32) (tgt := 314) C dL_law_32 (by decide) rfl (by decide) (ml_restore C hKx hKm hX hbl hbA hL hi4 hx hm kk)
    | 7, _ => exact jl_tab (pc := 32) (tgt := 337) C dL_law_32 (by decide) rfl (by decide) (ml_restoreFile C hKx hKm hX hbl hbA hL hi4 hx hm kk)
    | 8, _ => exact jl_tab (pc := 32) (tgt := 370) C dL_law_32 (by decide) rfl (by decide) (ml_pin C hKx hKm hX hbl hbA hL hi4 hx hm kk)
    | 9, _ => exact jl_tab (pc := 32) (tgt := 403) C dL_law_32 (by decide) rfl (by decide) (ml_forget C hKx hKm hX hbl hbA hL hi4 hx hm kk)
    | 10, _ => exact jl_tab (pc := 32) (tgt := 426) C dL_law_32 (by decide) rfl (by decide) (ml_prune C hKx hKm hX hbl hbA hL hi4 hx hm kk)
    | 11, _ => exact jl_tab (pc := 32) (tgt := 449) C dL_law_32 (by decide) rfl (by decide) (ml_points C hKx hKm hX hbl hbA hL hi4 hx hm kk)
    | 12, _ => exact jl_tab (pc := 32) (tgt := 462) C dL_law_32 (by decide) rfl (by decide) (ml_dayOf C hKx hKm hX hbl hbA hL hi4 hx hm kk)
    | 13, _ => exact jl_tab (pc := 32) (tgt := 485) C dL_law_32 (by decide) rfl (by decide) (ml_pinned C hKx hKm hX hbl hbA hL hi4 hx hm kk)
    | 14, _ => exact jl_tab (pc := 32) (tgt := 508) C dL_law_32 (by decide) rfl (by decide) (ml_there C hKx hKm hX hbl hbA hL hi4 hx hm kk)
    | 15, _ => exact jl_tab (pc := 32) (tgt := 541) C dL_law_32 (by decide) rfl (by decide) (ml_content C hKx hKm hX hbl hbA hL hi4 hx hm kk)
    | 16, _ => exact jl_tab (pc := 32) (tgt := 574) C dL_law_32 (by decide) rfl (by decide) (ml_liveThere C hKx hKm hX hbl hbA hL hi4 hx hm kk)
    | 17, _ => exact jl_tab (pc := 32) (tgt := 597) C dL_law_32 (by decide) rfl (by decide) (ml_live C hKx hKm hX hbl hbA hL hi4 hx hm kk)
    | 18, _ => exact jl_tab (pc := 32) (tgt := 620) C dL_law_32 (by decide) rfl (by decide) (ml_differing C hKx hKm hX hbl hbA hL hi4 hx hm kk)
    | 19, _ => exact jl_tab (pc := 32) (tgt := 653) C dL_law_32 (by decide) rfl (by decide) (ml_changedSince C hKx hKm hX hbl hbA hL hi4 hx hm kk)
    | 20, _ => exact jl_tab (pc := 32) (tgt := 676) C dL_law_32 (by decide) rfl (by decide) (ml_versions C hKx hKm hX hbl hbA hL hi4 hx hm kk)
    | 21, _ => exact jl_tab (pc := 32) (tgt := 699) C dL_law_32 (by decide) rfl (by decide) (ml_sum C hKx hKm hX hbl hbA hL hi4 hx hm kk)
    | j + 22, hj => exact jl_tabO (pc := 32) (tgt := 722) C dL_law_32 (by omega) hj (by decide) (kk G wx wm hx hm)
end
section
/-! the claim (kit/laws/SKELETON.whole): its head, whole_start -/
set_option maxRecDepth 100000
def lw_P (b : Addr) (xs : List Int32) (args : Array Value) (s : State) : Prop := args = #[.ref b] ∧ s.IntsAt b xs ∧ xs.length ≤ 256 ∧ (Jvm.Cond.and given_1 narrow_1).before args s = true
def lw_Q (_ : Array Value) (s : State) (o : Outcome) (t : State) : Prop := o = .returned (some (.int 1)) ∧ Framed s o t [] 600000 7290000
def lw_Z (below : List Frame) (a : Array Value) (s : State) : State → Prop := fun t => ∃ o, t.status = .running ∧ Ended t below o ∧ lw_Q a s o t
/-- the law's own end, with 1 on the stack, nothing written that was there before, its room as the claim has it -/
theorem lw_ret {p : Program} {l : Launch} {e : Env} {s : State} {m : MethodId} {below : List Frame} {meth : Method} {c : Code} {b : Nat} (hx : p.tables.exec = Jvm.exec) (hb : c.code = code) (hr : meth.sig.returnType = ret) (hlocks : meth.locks = false) {pc : Nat} {H : Heap} {ls : Array Slot} (hdg : decode code pc = .ok (.ireturn, 1)) : W p l e room_1 s m #[Value.ref b] below meth c H [] 600000 7290000 (lw_Z below #[Value.ref b] s) (F0 m pc ls [.int 1]) := by
  intro T hT X
  obtain ⟨fs, hret, hrun, hended, hW, hframe⟩ := X.leave (v := some (.int 1)) (hlocks := hlocks) (fun h => by rw [hr] at h; cases h)
  have hmeth' : T.vm.method? m = some meth := X.method'
  refine ⟨T.setFrames fs, ?_, .returned (some (.int 1)), hrun, hended, rfl, ⟨_, rfl⟩, hW, hframe⟩
  jvm_step X.here [X.here.top, hx, hb, hdg, hmeth', hr, ret, narrow_b1]
  (try refine ⟨rfl, ?_⟩); (try refine ⟨rfl, ?_⟩)
  first | (intro acts; rw [hret _ acts rfl rfl rfl]) | rw [hret _ _ rfl rfl rfl]
  exact Steps.refl _
/-- what holds at the law's entry: the machine, the code, the tables' words (any of lw_tbl by 'hts w (by decide +kernel)'), the script of L ints xs at the cell b, what the Statement gives of the start (any of its parts by flat_of_before) -/
def lw_At (p : Program) (s : State) (m : MethodId) (meth : Method) (c : Code) (b L : Nat) (xs : Nat → Int32) : Prop :=
  p.tables.exec = Jvm.exec ∧ c.code = code ∧ meth.sig.returnType = ret ∧ c.maxLocals = 4 ∧ s.vm.findClass R_law = some m.cls ∧ (∀ w ∈ lw_tbl, w.before #[Value.ref b] s = true) ∧ va_X b L xs s s.heap ∧ b < s.heap.size ∧ meth.locks = false ∧ (Jvm.Cond.and given_1 narrow_1).before #[Value.ref b] s = true
/-- the classes, known at the claim's start -/
theorem ml_classes {s0 : State} {b0 : Addr} (ht0 : ∀ w ∈ lw_tbl, w.before #[Value.ref b0] s0 = true) : ∃ (dC : Nat → ClassId) (dI : Nat → Nat → Nat), ∀ (k : Nat) (q : vw_C), vwCl[k]? = some q → u_Kn s0 q.1 q.2.1 q.2.2 (dC k) (dI k) := by
  obtain ⟨c0_, iS0, hKn0⟩ := u_known (C := RX0) (T := TX0) (N := 14) (n := 14) ht0 (fun w h => lw_all_tbl (in_X0 w h)) (ht0 _ (lw_all_tbl q22))
  obtain ⟨c1_, iS1, hKn1⟩ := u_known (C := RX1) (T := TX1) (N := 9) (n := 9) ht0 (fun w h => lw_all_tbl (in_X1 w h)) (ht0 _ (lw_all_tbl q210))
  refine ⟨fun k => if k = 0 then c0_ else c1_, fun k => if k = 0 then iS0 else iS1, ?_⟩
  intro k q hq
  match k, hq with
  | 0, hq => cases hq; exact hKn0
  | 1, hq => cases hq; exact hKn1
  | k + 2, hq => simp [vwCl] at hq
set_option maxHeartbeats 4000000 in
/-- the law, from its entry -/
theorem whole_start {p : Program} {e : Env} {s : State} {m : MethodId} {below : List Frame} {meth : Method} {c : Code} (l : Launch) {b L : Nat} {xs : Nat → Int32} (hL : L ≤ 256) (C0 : lw_At p s m meth c b L xs) : W p l e room_1 s m #[Value.ref b] below meth c s.heap [] 0 0 (lw_Z below #[Value.ref b] s) (entryFrame m ([Value.ref b] : List Value).toArray 4) := by
  obtain ⟨hx, hb, hr, hml, hown, hts0, hX, hbl, hlocks, hgv⟩ := C0
  have hts : ∀ w ∈ lw_all, w.before #[Value.ref b] s = true := fun w h => hts0 w (lw_all_tbl h)
  have hA : ∀ q : Nat, s.heap.size ≤ q → (fun q : Nat => s.heap.size ≤ q) q := fun _ h => h
  have hbA : ¬ (fun q : Nat => s.heap.size ≤ q) b := Nat.not_le.mpr hbl
  obtain ⟨dC, dI, hKc⟩ := ml_classes hts0
  have hS : va_S (fun q : Nat => s.heap.size ≤ q) s.heap s.heap [] := va_S.rf
  have hK : va_K (dC, dI) vwCl [] s := ⟨hKc, fun k q h => by simp at h⟩
  have hP : va_P (dC, dI) vwCl [] s.heap := fun k q h => by simp at h
  have hD : va_D (fun q : Nat => s.heap.size ≤ q) [] := ⟨fun i j p q h => by simp at h, fun k q h => by simp at h⟩
  have hl := lv_entry ([.ref b]) (n := 4) (Nat.le_of_ble_eq_true rfl)
  rw [lg_entry_eq]
  generalize (lg_sl ([.ref b]) ++ List.replicate (4 - (lg_sl ([.ref b])).length) Slot.unset).toArray = ls at hl ⊢
  have hl : lv_has ls 4 [(0, .ref b)] := hl
  refine va_new (ci := 0) (fs := [.null, .null, .null, .null, .null, .null, .null, .null, .null, .null, .null, .int 0, .int 0, .int 0]) (C := RX0) (T := TX0) (N := 14) hx hb hts in_X0 tyX0 tyX0_ok hown (hts _ q21) (hts _ q22) (hts _ q19) hK hP hD hS hA rfl (fun j hj => by rcases (show j = 0 ∨ j = 1 ∨ j = 2 ∨ j = 3 ∨ j = 4 ∨ j = 5 ∨ j = 6 ∨ j = 7 ∨ j = 8 ∨ j = 9 ∨ j = 10 ∨ j = 11 ∨ j = 12 ∨ j = 13 by omega) with rfl | rfl | rfl | rfl | rfl | rfl | rfl | rfl | rfl | rfl | rfl | rfl | rfl | rfl <;> rfl) (Nat.le_of_ble_eq_true rfl) (Nat.le_of_ble_eq_true rfl) dL_law_0 (fun qx H hP hD hS => ?_)
  have hP : va_P (dC, dI) vwCl ([] ++ wX0_0 qx) H := hP
  have hD : va_D (fun q : Nat => s.heap.size ≤ q) ([] ++ wX0_0 qx) := hD
  refine W.widen (k := 1) (n := 14) (Nat.le_refl _) (Nat.le_refl _) ?_
  refine lv_dup hx hb dL_law_3 rfl ?_
  have hPc := ja_Pr hP
  have hDc := ja_Dr hD
  have hFc : ∀ q, va_A (wX0_0 qx) H.size q → s.heap.size ≤ q := by
    rintro q (⟨k, e, h⟩ | h)
    · exact hDc.2 k _ h
    · exact Nat.le_trans hS.1 h
  refine va_callv (va_runI (As := []) (rest := [.ref qx]) ⟨hx, hb, hml, hown, hts⟩ (mX_init l (dC, dI) qx H.size) (cwI 0 hts (lw_meth q25) rfl rfl rfl (hts _ q19) (hts _ q23) (hts _ q24) rfl (by decide +kernel) ⟨Nat.le_of_ble_eq_true rfl, Nat.le_of_ble_eq_true rfl⟩) ⟨fun a U g mk q => by obtain ⟨q0, q1, qP, qK, qD⟩ := q; exact ⟨q0, q1, qP, va_K.moved (u := U) (U := U.calling g mk a) (Vm.Alike.refl U.vm) qK, qD⟩, fun U hU hW => ⟨rfl, by rw [hU], by rw [hU]; exact hPc, va_K.moved hW.alike hK, hDc.weaken (fun _ _ _ _ => trivial)⟩⟩ rfl rfl hl.1 rfl (lv_room (Nat.le_of_ble_eq_true rfl)) dL_law_4 ⟨Nat.le_of_ble_eq_true rfl, Nat.le_of_ble_eq_true rfl⟩) hS (fun q _ h => hFc q h) hFc (fun u t H1 locs ht hvm hwx hB hz1 hk1 hS => ?_)
  obtain ⟨ax, cx, wx⟩ := u
  obtain ⟨hP1, hKx, hD1⟩ := hB
  have hwx : xw_R qx ax cx jg_0 wx := hwx
  have hP1 : va_P (dC, dI) vwCl wx t.heap := hP1
  rw [ht] at hP1
  have hKx : va_K (dC, dI) vwCl (tX cx) s := va_K.moved hvm.symm hKx
  obtain ⟨hP, hD⟩ := ja_joinR hP hD hk1 hFc hP1 hD1
  have hP : va_P (dC, dI) vwCl wx H1 := hP
  have hD : va_D (fun q : Nat => s.heap.size ≤ q) wx := hD
  refine W.widen (k := 12) (n := 380) (Nat.le_refl _) (Nat.le_refl _) ?_
  refine lv_astore_n (lv' := [(1, .ref qx), (0, .ref b)]) hx hb dL_law_7 rfl hl (by decide) rfl (fun ls hl => ?_)
  refine va_new (ci := 1) (fs := [.int 0, .null, .null, .int 0, .null, .null, .null, .null, .null]) (C := RX1) (T := TX1) (N := 9) hx hb hts in_X1 tyX1 tyX1_ok hown (hts _ q209) (hts _ q210) (hts _ q20) hK hP hD hS hA rfl (fun j hj => by rcases (show j = 0 ∨ j = 1 ∨ j = 2 ∨ j = 3 ∨ j = 4 ∨ j = 5 ∨ j = 6 ∨ j = 7 ∨ j = 8 by omega) with rfl | rfl | rfl | rfl | rfl | rfl | rfl | rfl | rfl <;> rfl) (Nat.le_of_ble_eq_true rfl) (Nat.le_of_ble_eq_true rfl) dL_law_8 (fun qm H hP hD hS => ?_)
  have hP : va_P (dC, dI) vwCl (wx ++ wX1_0 qm) H := hP
  have hD : va_D (fun q : Nat => s.heap.size ≤ q) (wx ++ wX1_0 qm) := hD
  refine W.widen (k := 13) (n := 389) (Nat.le_refl _) (Nat.le_refl _) ?_
  refine lv_dup hx hb dL_law_11 rfl ?_
  have hPc := ja_Pr hP
  have hDc := ja_Dr hD
  have hFc : ∀ q, va_A (wX1_0 qm) H.size q → s.heap.size ≤ q := by
    rintro q (⟨k, e, h⟩ | h)
    · exact hDc.2 k _ h
    · exact Nat.le_trans hS.1 h
  refine va_callv (va_runI (As := []) (rest := [.ref qm]) ⟨hx, hb, hml, hown, hts⟩ (mM_init l (dC, dI) qm H.size) (cwI 0 hts (lw_meth q213) rfl rfl rfl (hts _ q20) (hts _ q211) (hts _ q212) rfl (by decide +kernel) ⟨Nat.le_of_ble_eq_true rfl, Nat.le_of_ble_eq_true rfl⟩) ⟨fun a U g mk q => by obtain ⟨q0, q1, qP, qK, qD⟩ := q; exact ⟨q0, q1, qP, va_K.moved (u := U) (U := U.calling g mk a) (Vm.Alike.refl U.vm) qK, qD⟩, fun U hU hW => ⟨rfl, by rw [hU], by rw [hU]; exact hPc, va_K.moved hW.alike hK, hDc.weaken (fun _ _ _ _ => trivial)⟩⟩ rfl rfl hl.1 rfl (lv_room (Nat.le_of_ble_eq_true rfl)) dL_law_12 ⟨Nat.le_of_ble_eq_true rfl, Nat.le_of_ble_eq_true rfl⟩) hS (fun q _ h => hFc q h) hFc (fun u t H1 locs ht hvm hwm hB hz1 hk1 hS => ?_)
  obtain ⟨am, cm, wm⟩ := u
  obtain ⟨hP1, hKm, hD1⟩ := hB
  have hwm : mw_R qm am cm jg_0 wm := hwm
  have hP1 : va_P (dC, dI) vwCl wm t.heap := hP1
  rw [ht] at hP1
  have hKm : va_K (dC, dI) vwCl (tM cm) s := va_K.moved hvm.symm hKm
  obtain ⟨hP, hD⟩ := ja_joinR hP hD hk1 hFc hP1 hD1
  refine lv_astore_n (lv' := [(2, .ref qm), (1, .ref qx), (0, .ref b)]) hx hb dL_law_15 rfl hl (by decide) rfl (fun ls hl => ?_)
  refine lv_iconst (v := nI 0) hx hb dL_law_16 (by decide) ?_
  refine lv_istore_n (lv' := [(3, .int (nI 0)), (2, .ref qm), (1, .ref qx), (0, .ref b)]) hx hb dL_law_17 rfl hl (by decide) rfl (fun ls hl => ?_)
  refine W.widen (k := 600000) (n := 7290000) (Nat.le_of_ble_eq_true rfl) (Nat.le_of_ble_eq_true rfl) ?_
  have hend : ∀ w lv, jw_J (p, l, e, room_1, s, m, #[Value.ref b], below, meth, c, (dC, dI), (fun q : Nat => s.heap.size ≤ q), lw_Z below #[Value.ref b] s, 600000, 7290000) 4 w 728 lv [] := by
    intro w lv H locs ls hP hD hS hl
    refine lv_iconst (v := 1) hx hb dL_law_728 (by decide) ?_
    refine va_forget (fun q hq => hS.2.2 q hq) ?_
    exact lw_ret hx hb hr hlocks dL_law_729
  exact ml_loop (E := (p, l, e, room_1, s, m, #[Value.ref b], below, meth, c, (dC, dI), (fun q : Nat => s.heap.size ≤ q), lw_Z below #[Value.ref b] s, 600000, 7290000)) ⟨hx, hb, hml, hown, hts, hK, hA, ⟨Nat.le_of_ble_eq_true rfl, Nat.le_of_ble_eq_true rfl⟩, ⟨Nat.le_refl _, Nat.le_refl _⟩⟩ hKx hKm hX hbl hbA hL hend 64 0 (Nat.zero_le _) (by omega) jg_0 wx wm hwx hwm H1 locs ls hP hD hS (lv_sub hl [3, 2, 1, 0] rfl)
end
section
/-! the claim: the end of kit/laws/SKELETON.whole -/
set_option maxRecDepth 100000
set_option maxHeartbeats 4000000 in
theorem lw_walk (l : Launch) (b : Addr) (xs : List Int32) : MetFree l x (headSpec (Jvm.Cond.code x code maxLocals ret :: tables_1) room_1) (lw_P b xs) (fun _ _ _ _ _ => True) lw_Q := by
  refine MetFree.of_bodyS (code := code) (maxLocals := maxLocals) (ret := ret) (by decide) ?_ ?_
  · intro args s m h hn
    obtain ⟨meth, c, h1, h2, h3, h4, h5, h6, -, -⟩ := Cond.code_spec hn (atoms_spec (ws := Jvm.Cond.code x code maxLocals ret :: tables_1) h _ List.mem_cons_self)
    exact ⟨meth, c, h1, h2, h3, h4, h5, h6⟩
  · intro p e s m args below meth c s₁ B hml0 hP _
    obtain ⟨rfl, hx, hbd, hgv⟩ := hP
    obtain ⟨scr, harrAt, hlist, hof, hsmall⟩ := hx
    obtain ⟨hcb, hkn, -, -⟩ := State.arrayAt?_spec harrAt
    have hown : s.vm.findClass R_law = some m.cls := findClass_of_methodNamed B.named
    have hts0 : ∀ c ∈ (Jvm.Cond.code x code maxLocals ret :: tables_1), c.before #[Value.ref b] s = true := atoms_spec (ws := Jvm.Cond.code x code maxLocals ret :: tables_1) B.pre
    have hts : ∀ w ∈ lw_tbl, w.before #[Value.ref b] s = true := k2_hts_sels lw_privs (fun w hw => hts0 w (List.mem_cons_of_mem _ hw)) lw_privs_ok
    have hml : c.maxLocals = 4 := B.maxLocals_eq (hts0 _ List.mem_cons_self)
    have X₀ : Stand p l e room_1 s m #[Value.ref b] below meth c s₁ [] 0 0 := Stand.of_body B
    have hh0 : s₁.heap = s.heap := by rw [B.state]; rfl
    have hsz : scr.slots.size = xs.length := by rw [← Array.length_toList, hlist, List.length_map]
    have hval : ∀ j : Nat, j < xs.length → scr.slots[j]? = some (.int (xs.getD j 0)) := fun j hj => by
      rw [← Array.getElem?_toList, hlist]
      simp [hj]
    have hbl : b < s.heap.size := (Array.getElem?_eq_some_iff.mp hcb).1
    have hX : va_X b xs.length (fun j => xs.getD j 0) s s.heap := ⟨scr, hcb, hof, hkn, hsz, hval⟩
    have K : W p l e room_1 s m #[Value.ref b] below meth c s₁.heap [] 0 0 (lw_Z below #[Value.ref b] s) (entryFrame m ([Value.ref b] : List Value).toArray 4) := by
      rw [hh0]
      exact whole_start l hbd ⟨B.exec, B.bytes, B.returns, hml, hown, hts, hX, hbl, B.notSynchronized, hgv⟩
    obtain ⟨t, a1, o, b1, b2, b3⟩ := K s₁ rfl X₀
    exact ⟨t, o, a1, b1, b2, b3⟩
theorem lw_pre_spec {args : Array Value} {s : State} (h : (Jvm.Cond.and given_1 narrow_1).before args s = true) (hr : rest_1_c.before args s = true) : ∃ (b : Addr) (xs : List Int32), lw_P b xs args s := by
  have hs := flat_of_before _ h
  have hq := flat_of_before _ hr
  have hc : (Cond.count 1).before args s = true := hs _ (by decide +kernel)
  have harr : (Cond.arrayOf (.arg 0) .int).before args s = true := hs _ (by decide +kernel)
  have hle : (Cond.le (.length (.arg 0)) (.int 256)).before args s = true := hs _ (by decide +kernel)
  have hlen : (Cond.isInt (.length (.arg 0))).before args s = true := hq _ (by decide +kernel)
  have hall : (Cond.all (.arg 0) (.isInt (.elem (.arg 0) (.index 0)))).before args s = true := hq _ (by decide +kernel)
  obtain ⟨b, xs, hb, hx⟩ := State.ints_of_pre rfl harr hlen hall
  have hsm : xs.length < 2 ^ 31 := hx.choose_spec.2.2.2
  have hev : (Term.length (.arg 0)).eval args s none [] s = some (.int xs.length.toInt32) := hx.length_eval hb
  have hv := Cond.le_ints hev (show (Term.int 256).eval args s none [] s = some (.int 256) from rfl)
  have hd : xs.length.toInt32 ≤ 256 := by
    simpa [Cond.before, Cond.holds, hv] using hle
  have hN : xs.length ≤ 256 := (Int32.ofNat_le_ofNat hsm (by decide)).mp (show Int32.ofNat xs.length ≤ Int32.ofNat 256 from hd)
  exact ⟨b, xs, Cond.one_arg hc (show args[0]? = some (.ref b) from hb), hx, hN, h⟩
theorem lw_comes (l : Launch) : Comes l x (Jvm.Cond.code x code maxLocals ret :: tables_1) room_1 (fun tb e args s => Calls_1 tb e args s ∧ rest_1 tb e args s ∧ Pre_1 tb e args s)
    (fun _ _ args s o t => lw_Q args s o t) := by
  intro p e ha hc hk s m args below hf hfit hheap happ hpre
  obtain ⟨b, xs, hP⟩ := lw_pre_spec hpre.2.2 hpre.2.1
  obtain ⟨k, o, h1, h2, h3, hQ⟩ := lw_walk l b xs p e ha hc hk s m args below hf ((Spec.applies_iff_loose hf).mp happ).1 hP trivial
  exact ⟨k, o, h1, h2, h3, hQ⟩
theorem lw_frame {s t : State} {o : Outcome} {args : Array Value} (h : Framed s o t [] 600000 7290000) :
    Framed s o t (fieldLocs frame_1_writes args s ++ arrayLocs frame_1_arrays args s ++ staticLocs frame_1_statics s) 600000 7290000 := h
theorem lw_limb (L : Cond) (hL : ∀ (args : Array Value) (s t : State), L.after args s (.returned (some (.int 1))) t = true) :
    ArmFor flags0 classFile x code maxLocals ret World_1 tables_1 room_1 Calls_1 rest_1 Pre_1
      (fun tb e a s o t => postC L tb e a s o t ∧ Framed s o t (fieldLocs frame_1_writes a s ++ arrayLocs frame_1_arrays a s ++ staticLocs frame_1_statics s) 600000 7290000) := by
  intro l _ _ _ p e ha hc hk s m args below hf hfit hheap happ hpre
  obtain ⟨k, o, h1, h2, h3, rfl, hF⟩ := lw_comes l p e ha hc hk s m args below hf hfit hheap happ hpre
  exact ⟨k, _, h1, h2, h3, hL args s _, lw_frame hF⟩
theorem i_vc : Claimed_1_1 ∧ Claimed_1_2 := ⟨lw_limb limb_1_1 (fun args s t => by simp [limb_1_1, Cond.after, Cond.holds, Cond.value]), lw_limb limb_1_2 (fun args s t => Cond.after_iff.mpr (by
  first | (rw [show limb_1_2 = Cond.eq .result (.int 1) from rfl, Cond.eq_ints (x := 1) (y := 1) rfl rfl]; simp; done) | (simp [limb_1_2, Cond.value, Term.eval]; done)))⟩
end
