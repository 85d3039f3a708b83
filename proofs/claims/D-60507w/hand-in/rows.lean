section
-- ===== PART A: goes FIRST, ahead of the names: the tables' words, and 'selects' of the private methods out of them =====
/-- a private method of a class that the tables say can be made, by its rows of tables_1 -/
def lw_okq (q : MethodName × Nat) : Prop := (q.1.cls ≠ "java/lang/invoke/MethodHandle" ∧ q.1.cls ≠ "java/lang/invoke/VarHandle") ∧ Cond.instantiable q.1.cls q.2 ∈ tables_1 ∧ Cond.privateMethod q.1 ∈ tables_1 ∧ Cond.instanceMethod q.1 ∈ tables_1
set_option maxRecDepth 100000
theorem lw_t1 {w : Cond} (h : w ∈ tables_1_1) : w ∈ tables_1 := List.mem_append_left _ h
theorem lw_t2 {w : Cond} (h : w ∈ tables_1_2) : w ∈ tables_1 := List.mem_append_right _ h
theorem lw_p0 : lw_okq (⟨"BridgeBoard", "listGaps", "()V"⟩, 17) := ⟨⟨by decide +kernel, by decide +kernel⟩, lw_t1 (List.mem_of_getElem? (i := 4) rfl), lw_t1 (List.mem_of_getElem? (i := 12) rfl), lw_t1 (List.mem_of_getElem? (i := 13) rfl)⟩
theorem lw_p1 : lw_okq (⟨"BridgeBoard", "look", "(IIII)V"⟩, 17) := ⟨⟨by decide +kernel, by decide +kernel⟩, lw_t1 (List.mem_of_getElem? (i := 4) rfl), lw_t1 (List.mem_of_getElem? (i := 16) rfl), lw_t1 (List.mem_of_getElem? (i := 17) rfl)⟩
theorem lw_p2 : lw_okq (⟨"BridgeBoard", "solve", "()V"⟩, 17) := ⟨⟨by decide +kernel, by decide +kernel⟩, lw_t1 (List.mem_of_getElem? (i := 4) rfl), lw_t1 (List.mem_of_getElem? (i := 101) rfl), lw_t1 (List.mem_of_getElem? (i := 102) rfl)⟩
theorem lw_p3 : lw_okq (⟨"BridgeBoard", "narrow", "(I)I"⟩, 17) := ⟨⟨by decide +kernel, by decide +kernel⟩, lw_t1 (List.mem_of_getElem? (i := 4) rfl), lw_t1 (List.mem_of_getElem? (i := 105) rfl), lw_t1 (List.mem_of_getElem? (i := 106) rfl)⟩
theorem lw_p4 : lw_okq (⟨"BridgeBoard", "narrowIslands", "(I)I"⟩, 17) := ⟨⟨by decide +kernel, by decide +kernel⟩, lw_t1 (List.mem_of_getElem? (i := 4) rfl), lw_t1 (List.mem_of_getElem? (i := 109) rfl), lw_t1 (List.mem_of_getElem? (i := 110) rfl)⟩
theorem lw_p5 : lw_okq (⟨"BridgeBoard", "narrowIsland", "(II)I"⟩, 17) := ⟨⟨by decide +kernel, by decide +kernel⟩, lw_t1 (List.mem_of_getElem? (i := 4) rfl), lw_t1 (List.mem_of_getElem? (i := 113) rfl), lw_t1 (List.mem_of_getElem? (i := 114) rfl)⟩
theorem lw_p6 : lw_okq (⟨"BridgeBoard", "touches", "(II)Z"⟩, 17) := ⟨⟨by decide +kernel, by decide +kernel⟩, lw_t1 (List.mem_of_getElem? (i := 4) rfl), lw_t1 (List.mem_of_getElem? (i := 117) rfl), lw_t1 (List.mem_of_getElem? (i := 118) rfl)⟩
theorem lw_p7 : lw_okq (⟨"BridgeBoard", "narrowCrossings", "(I)I"⟩, 17) := ⟨⟨by decide +kernel, by decide +kernel⟩, lw_t1 (List.mem_of_getElem? (i := 4) rfl), lw_t1 (List.mem_of_getElem? (i := 136) rfl), lw_t1 (List.mem_of_getElem? (i := 137) rfl)⟩
theorem lw_p8 : lw_okq (⟨"BridgeBoard", "narrowCuts", "(I)I"⟩, 17) := ⟨⟨by decide +kernel, by decide +kernel⟩, lw_t1 (List.mem_of_getElem? (i := 4) rfl), lw_t1 (List.mem_of_getElem? (i := 140) rfl), lw_t1 (List.mem_of_getElem? (i := 141) rfl)⟩
theorem lw_p9 : lw_okq (⟨"BridgeBoard", "hangTogether", "(II)Z"⟩, 17) := ⟨⟨by decide +kernel, by decide +kernel⟩, lw_t1 (List.mem_of_getElem? (i := 4) rfl), lw_t1 (List.mem_of_getElem? (i := 144) rfl), lw_t1 (List.mem_of_getElem? (i := 145) rfl)⟩
theorem lw_p10 : lw_okq (⟨"BridgeBoard", "firstOpen", "(I)I"⟩, 17) := ⟨⟨by decide +kernel, by decide +kernel⟩, lw_t1 (List.mem_of_getElem? (i := 4) rfl), lw_t1 (List.mem_of_getElem? (i := 149) rfl), lw_t1 (List.mem_of_getElem? (i := 150) rfl)⟩
theorem lw_p11 : lw_okq (⟨"BridgeBoard", "keep", "(I)V"⟩, 17) := ⟨⟨by decide +kernel, by decide +kernel⟩, lw_t1 (List.mem_of_getElem? (i := 4) rfl), lw_t1 (List.mem_of_getElem? (i := 153) rfl), lw_t1 (List.mem_of_getElem? (i := 154) rfl)⟩
theorem lw_p12 : lw_okq (⟨"BridgeBoard", "guess", "(I)Z"⟩, 17) := ⟨⟨by decide +kernel, by decide +kernel⟩, lw_t1 (List.mem_of_getElem? (i := 4) rfl), lw_t1 (List.mem_of_getElem? (i := 157) rfl), lw_t1 (List.mem_of_getElem? (i := 158) rfl)⟩
theorem lw_p13 : lw_okq (⟨"BridgeBoardModel", "held", "()I"⟩, 7) := ⟨⟨by decide +kernel, by decide +kernel⟩, lw_t1 (List.mem_of_getElem? (i := 173) rfl), lw_t1 (List.mem_of_getElem? (i := 209) rfl), lw_t1 (List.mem_of_getElem? (i := 210) rfl)⟩
theorem lw_p14 : lw_okq (⟨"BridgeBoardModel", "survey", "()V"⟩, 7) := ⟨⟨by decide +kernel, by decide +kernel⟩, lw_t1 (List.mem_of_getElem? (i := 173) rfl), lw_t1 (List.mem_of_getElem? (i := 225) rfl), lw_t1 (List.mem_of_getElem? (i := 226) rfl)⟩
theorem lw_p15 : lw_okq (⟨"BridgeBoardModel", "look", "(III)V"⟩, 7) := ⟨⟨by decide +kernel, by decide +kernel⟩, lw_t1 (List.mem_of_getElem? (i := 173) rfl), lw_t1 (List.mem_of_getElem? (i := 229) rfl), lw_t1 (List.mem_of_getElem? (i := 230) rfl)⟩
def lw_privs_1 : List (MethodName × Nat) := [(⟨"BridgeBoard", "listGaps", "()V"⟩, 17), (⟨"BridgeBoard", "look", "(IIII)V"⟩, 17), (⟨"BridgeBoard", "solve", "()V"⟩, 17), (⟨"BridgeBoard", "narrow", "(I)I"⟩, 17), (⟨"BridgeBoard", "narrowIslands", "(I)I"⟩, 17), (⟨"BridgeBoard", "narrowIsland", "(II)I"⟩, 17), (⟨"BridgeBoard", "touches", "(II)Z"⟩, 17), (⟨"BridgeBoard", "narrowCrossings", "(I)I"⟩, 17), (⟨"BridgeBoard", "narrowCuts", "(I)I"⟩, 17), (⟨"BridgeBoard", "hangTogether", "(II)Z"⟩, 17), (⟨"BridgeBoard", "firstOpen", "(I)I"⟩, 17), (⟨"BridgeBoard", "keep", "(I)V"⟩, 17), (⟨"BridgeBoard", "guess", "(I)Z"⟩, 17), (⟨"BridgeBoardModel", "held", "()I"⟩, 7), (⟨"BridgeBoardModel", "survey", "()V"⟩, 7), (⟨"BridgeBoardModel", "look", "(III)V"⟩, 7)]
theorem lw_r1 : ∀ q ∈ lw_privs_1, lw_okq q := List.forall_mem_cons.mpr ⟨lw_p0, List.forall_mem_cons.mpr ⟨lw_p1, List.forall_mem_cons.mpr ⟨lw_p2, List.forall_mem_cons.mpr ⟨lw_p3, List.forall_mem_cons.mpr ⟨lw_p4, List.forall_mem_cons.mpr ⟨lw_p5, List.forall_mem_cons.mpr ⟨lw_p6, List.forall_mem_cons.mpr ⟨lw_p7, List.forall_mem_cons.mpr ⟨lw_p8, List.forall_mem_cons.mpr ⟨lw_p9, List.forall_mem_cons.mpr ⟨lw_p10, List.forall_mem_cons.mpr ⟨lw_p11, List.forall_mem_cons.mpr ⟨lw_p12, List.forall_mem_cons.mpr ⟨lw_p13, List.forall_mem_cons.mpr ⟨lw_p14, List.forall_mem_cons.mpr ⟨lw_p15, fun _ h => absurd h List.not_mem_nil⟩⟩⟩⟩⟩⟩⟩⟩⟩⟩⟩⟩⟩⟩⟩⟩
theorem lw_p16 : lw_okq (⟨"BridgeBoardModel", "count", "(II)I"⟩, 7) := ⟨⟨by decide +kernel, by decide +kernel⟩, lw_t1 (List.mem_of_getElem? (i := 173) rfl), lw_t2 (List.mem_of_getElem? (i := 1) rfl), lw_t2 (List.mem_of_getElem? (i := 2) rfl)⟩
theorem lw_p17 : lw_okq (⟨"BridgeBoardModel", "begin", "()V"⟩, 7) := ⟨⟨by decide +kernel, by decide +kernel⟩, lw_t1 (List.mem_of_getElem? (i := 173) rfl), lw_t2 (List.mem_of_getElem? (i := 5) rfl), lw_t2 (List.mem_of_getElem? (i := 6) rfl)⟩
theorem lw_p18 : lw_okq (⟨"BridgeBoardModel", "solves", "()Z"⟩, 7) := ⟨⟨by decide +kernel, by decide +kernel⟩, lw_t1 (List.mem_of_getElem? (i := 173) rfl), lw_t2 (List.mem_of_getElem? (i := 9) rfl), lw_t2 (List.mem_of_getElem? (i := 10) rfl)⟩
theorem lw_p19 : lw_okq (⟨"BridgeBoardModel", "summed", "()Z"⟩, 7) := ⟨⟨by decide +kernel, by decide +kernel⟩, lw_t1 (List.mem_of_getElem? (i := 173) rfl), lw_t2 (List.mem_of_getElem? (i := 13) rfl), lw_t2 (List.mem_of_getElem? (i := 14) rfl)⟩
theorem lw_p20 : lw_okq (⟨"BridgeBoardModel", "apart", "()Z"⟩, 7) := ⟨⟨by decide +kernel, by decide +kernel⟩, lw_t1 (List.mem_of_getElem? (i := 173) rfl), lw_t2 (List.mem_of_getElem? (i := 17) rfl), lw_t2 (List.mem_of_getElem? (i := 18) rfl)⟩
theorem lw_p21 : lw_okq (⟨"BridgeBoardModel", "joined", "()Z"⟩, 7) := ⟨⟨by decide +kernel, by decide +kernel⟩, lw_t1 (List.mem_of_getElem? (i := 173) rfl), lw_t2 (List.mem_of_getElem? (i := 21) rfl), lw_t2 (List.mem_of_getElem? (i := 22) rfl)⟩
theorem lw_p22 : lw_okq (⟨"BridgeBoardModel", "next", "()Z"⟩, 7) := ⟨⟨by decide +kernel, by decide +kernel⟩, lw_t1 (List.mem_of_getElem? (i := 173) rfl), lw_t2 (List.mem_of_getElem? (i := 25) rfl), lw_t2 (List.mem_of_getElem? (i := 26) rfl)⟩
def lw_privs_2 : List (MethodName × Nat) := [(⟨"BridgeBoardModel", "count", "(II)I"⟩, 7), (⟨"BridgeBoardModel", "begin", "()V"⟩, 7), (⟨"BridgeBoardModel", "solves", "()Z"⟩, 7), (⟨"BridgeBoardModel", "summed", "()Z"⟩, 7), (⟨"BridgeBoardModel", "apart", "()Z"⟩, 7), (⟨"BridgeBoardModel", "joined", "()Z"⟩, 7), (⟨"BridgeBoardModel", "next", "()Z"⟩, 7)]
theorem lw_r2 : ∀ q ∈ lw_privs_2, lw_okq q := List.forall_mem_cons.mpr ⟨lw_p16, List.forall_mem_cons.mpr ⟨lw_p17, List.forall_mem_cons.mpr ⟨lw_p18, List.forall_mem_cons.mpr ⟨lw_p19, List.forall_mem_cons.mpr ⟨lw_p20, List.forall_mem_cons.mpr ⟨lw_p21, List.forall_mem_cons.mpr ⟨lw_p22, fun _ h => absurd h List.not_mem_nil⟩⟩⟩⟩⟩⟩⟩
def lw_privs : List (MethodName × Nat) := lw_privs_1 ++ (lw_privs_2)
def lw_tbl : List Cond := k2_sels lw_privs ++ tables_1
theorem lw_privs_ok : ∀ q ∈ lw_privs, lw_okq q := by
  show ∀ q ∈ lw_privs_1 ++ (lw_privs_2), lw_okq q
  exact List.forall_mem_append.mpr ⟨lw_r1, lw_r2⟩
-- ===== ONE list of words for every method: the tables' words that hold all through a run =====
def lw_all : List Cond := lw_tbl.filter goodWord
/-- a word of the tables by its place: claim/WORDS.tsv -/
theorem lw_w {w : Cond} (i : Nat) (h : lw_tbl[i]? = some w) (g : goodWord w = true) : w ∈ lw_all := List.mem_filter.mpr ⟨List.mem_of_getElem? h, g⟩
theorem lw_all_tbl {w : Cond} (h : w ∈ lw_all) : w ∈ lw_tbl := (List.mem_filter.mp h).1
theorem lw_self : GoodIn lw_all lw_all := fun w h => ⟨h, good_of_word (List.mem_filter.mp h).2⟩
/-- a class's field words, by their places -/
theorem lw_in (ws : List Cond) (ps : List Nat) (hp : ws = ps.filterMap (fun i => lw_tbl[i]?)) (hg : ws.all goodWord = true) : ∀ w ∈ ws, w ∈ lw_all := by
  intro w h
  have h1 := List.all_eq_true.mp hg w h
  rw [hp] at h
  obtain ⟨i, -, hi⟩ := List.mem_filterMap.mp h
  exact lw_w i hi h1
/-- the words of a contract for the method y with code b, L locals, answer r -/
abbrev ws_ (y : MethodName) (b : ByteArray) (L : Nat) (r : Option FieldType) : List Cond := Cond.code y b L r :: lw_all
theorem lw_meth {y : MethodName} {b : ByteArray} {L : Nat} {r : Option FieldType} (h : Cond.code y b L r ∈ lw_all) : GoodIn lw_all (ws_ y b L r) := by
  intro w hw
  rcases List.mem_cons.mp hw with e | e
  · rw [e]
    exact lw_self _ h
  · exact lw_self _ e
theorem lw_app {a c : List Cond} (ha : ∀ w ∈ a, w ∈ lw_all) (hc : GoodIn lw_all c) : GoodIn lw_all (a ++ c) := by
  intro w hw
  rcases List.mem_append.mp hw with e | e
  · exact lw_self w (ha w e)
  · exact hc w e
/-- what a call through an object asks: cwV n hts (lw_V ..) -/
theorem lw_V {own : String} {idx : Nat} {C : String} {y : MethodName} {b : ByteArray} {L : Nat} {r : Option FieldType} (h1 : Cond.methodLink own idx y ∈ lw_all) (h2 : Cond.instanceMethod y ∈ lw_all) (h3 : Cond.selects C y y ∈ lw_all) (h4 : Cond.initialized C ∈ lw_all) (h5 : Cond.code y b L r ∈ lw_all) : GoodIn lw_all (wsV own idx C y (ws_ y b L r)) := by
  refine lw_app ?_ (lw_meth h5)
  intro w hw
  simp only [List.mem_cons, List.not_mem_nil, or_false] at hw
  rcases hw with e | e | e | e
  · rw [e]; exact h1
  · rw [e]; exact h2
  · rw [e]; exact h3
  · rw [e]; exact h4
/-- what a static call asks: va_cwS n hts (lw_S ..) -/
theorem lw_S {own : String} {idx : Nat} {y : MethodName} {b : ByteArray} {L : Nat} {r : Option FieldType} (h1 : Cond.methodLink own idx y ∈ lw_all) (h2 : Cond.static y ∈ lw_all) (h3 : Cond.initialized y.cls ∈ lw_all) (h4 : Cond.code y b L r ∈ lw_all) : GoodIn lw_all (va_wsS own idx y (ws_ y b L r)) := by
  refine lw_app ?_ (lw_meth h4)
  intro w hw
  simp only [List.mem_cons, List.not_mem_nil, or_false] at hw
  rcases hw with e | e | e
  · rw [e]; exact h1
  · rw [e]; exact h2
  · rw [e]; exact h3
/-- the words of a contract for a method WITH HANDLERS (hh: its table) -/
abbrev wsW_ (y : MethodName) (b : ByteArray) (L : Nat) (r : Option FieldType) (hh : List (Nat × Nat × Nat × Nat)) : List Cond := Cond.codeWith y b L r hh :: lw_all
theorem lw_methW {y : MethodName} {b : ByteArray} {L : Nat} {r : Option FieldType} {hh : List (Nat × Nat × Nat × Nat)} (h : Cond.codeWith y b L r hh ∈ lw_all) : GoodIn lw_all (wsW_ y b L r hh) := by
  intro w hw
  rcases List.mem_cons.mp hw with e | e
  · rw [e]
    exact lw_self _ h
  · exact lw_self _ e
/-- any list of words by their places (lw_in), good -/
theorem lw_good {ws : List Cond} (h : ∀ w ∈ ws, w ∈ lw_all) : GoodIn lw_all ws := fun w hw => lw_self w (h w hw)
/-- what a call of a method with handlers asks: vx_cwVW n hts (lw_VW ..), vx_cwSW n hts (lw_SW ..) -/
theorem lw_VW {own : String} {idx : Nat} {C : String} {y : MethodName} {b : ByteArray} {L : Nat} {r : Option FieldType} {hh : List (Nat × Nat × Nat × Nat)} (h1 : Cond.methodLink own idx y ∈ lw_all) (h2 : Cond.instanceMethod y ∈ lw_all) (h3 : Cond.selects C y y ∈ lw_all) (h4 : Cond.initialized C ∈ lw_all) (h5 : Cond.codeWith y b L r hh ∈ lw_all) : GoodIn lw_all (wsV own idx C y (wsW_ y b L r hh)) := by
  refine lw_app ?_ (lw_methW h5)
  intro w hw
  simp only [List.mem_cons, List.not_mem_nil, or_false] at hw
  rcases hw with e | e | e | e
  · rw [e]; exact h1
  · rw [e]; exact h2
  · rw [e]; exact h3
  · rw [e]; exact h4
theorem lw_SW {own : String} {idx : Nat} {y : MethodName} {b : ByteArray} {L : Nat} {r : Option FieldType} {hh : List (Nat × Nat × Nat × Nat)} (h1 : Cond.methodLink own idx y ∈ lw_all) (h2 : Cond.static y ∈ lw_all) (h3 : Cond.initialized y.cls ∈ lw_all) (h4 : Cond.codeWith y b L r hh ∈ lw_all) : GoodIn lw_all (va_wsS own idx y (wsW_ y b L r hh)) := by
  refine lw_app ?_ (lw_methW h4)
  intro w hw
  simp only [List.mem_cons, List.not_mem_nil, or_false] at hw
  rcases hw with e | e | e
  · rw [e]; exact h1
  · rw [e]; exact h2
  · rw [e]; exact h3
/-- a word by its place in its run of the tables -/
theorem lw_at {r : List Cond} (hr : ∀ w ∈ r, w ∈ lw_tbl) {w : Cond} (i : Nat) (h : r[i]? = some w) : w ∈ lw_tbl := hr w (List.mem_of_getElem? h)
theorem lw_g {w : Cond} (h : w ∈ lw_tbl) (g : goodWord w = true) : w ∈ lw_all := List.mem_filter.mpr ⟨h, g⟩
theorem lw_ms : ∀ w ∈ k2_sels lw_privs, w ∈ lw_tbl := fun w h => show w ∈ k2_sels lw_privs ++ tables_1 from List.mem_append_left _ h
theorem lw_m1 : ∀ w ∈ tables_1_1, w ∈ lw_tbl := fun w h => show w ∈ k2_sels lw_privs ++ tables_1 from List.mem_append_right (k2_sels lw_privs) (show w ∈ tables_1 from List.mem_append_left _ h)
theorem lw_m2 : ∀ w ∈ tables_1_2, w ∈ lw_tbl := fun w h => show w ∈ k2_sels lw_privs ++ tables_1 from List.mem_append_right (k2_sels lw_privs) (show w ∈ tables_1 from List.mem_append_right _ h)
theorem qs0 : (Cond.selects "BridgeBoard" ⟨"BridgeBoard", "listGaps", "()V"⟩ ⟨"BridgeBoard", "listGaps", "()V"⟩) ∈ lw_all := lw_g (lw_at lw_ms 0 rfl) rfl
theorem qs1 : (Cond.selects "BridgeBoard" ⟨"BridgeBoard", "look", "(IIII)V"⟩ ⟨"BridgeBoard", "look", "(IIII)V"⟩) ∈ lw_all := lw_g (lw_at lw_ms 1 rfl) rfl
theorem qs2 : (Cond.selects "BridgeBoard" ⟨"BridgeBoard", "solve", "()V"⟩ ⟨"BridgeBoard", "solve", "()V"⟩) ∈ lw_all := lw_g (lw_at lw_ms 2 rfl) rfl
theorem qs3 : (Cond.selects "BridgeBoard" ⟨"BridgeBoard", "narrow", "(I)I"⟩ ⟨"BridgeBoard", "narrow", "(I)I"⟩) ∈ lw_all := lw_g (lw_at lw_ms 3 rfl) rfl
theorem qs4 : (Cond.selects "BridgeBoard" ⟨"BridgeBoard", "narrowIslands", "(I)I"⟩ ⟨"BridgeBoard", "narrowIslands", "(I)I"⟩) ∈ lw_all := lw_g (lw_at lw_ms 4 rfl) rfl
theorem qs5 : (Cond.selects "BridgeBoard" ⟨"BridgeBoard", "narrowIsland", "(II)I"⟩ ⟨"BridgeBoard", "narrowIsland", "(II)I"⟩) ∈ lw_all := lw_g (lw_at lw_ms 5 rfl) rfl
theorem qs6 : (Cond.selects "BridgeBoard" ⟨"BridgeBoard", "touches", "(II)Z"⟩ ⟨"BridgeBoard", "touches", "(II)Z"⟩) ∈ lw_all := lw_g (lw_at lw_ms 6 rfl) rfl
theorem qs7 : (Cond.selects "BridgeBoard" ⟨"BridgeBoard", "narrowCrossings", "(I)I"⟩ ⟨"BridgeBoard", "narrowCrossings", "(I)I"⟩) ∈ lw_all := lw_g (lw_at lw_ms 7 rfl) rfl
theorem qs8 : (Cond.selects "BridgeBoard" ⟨"BridgeBoard", "narrowCuts", "(I)I"⟩ ⟨"BridgeBoard", "narrowCuts", "(I)I"⟩) ∈ lw_all := lw_g (lw_at lw_ms 8 rfl) rfl
theorem qs9 : (Cond.selects "BridgeBoard" ⟨"BridgeBoard", "hangTogether", "(II)Z"⟩ ⟨"BridgeBoard", "hangTogether", "(II)Z"⟩) ∈ lw_all := lw_g (lw_at lw_ms 9 rfl) rfl
theorem qs10 : (Cond.selects "BridgeBoard" ⟨"BridgeBoard", "firstOpen", "(I)I"⟩ ⟨"BridgeBoard", "firstOpen", "(I)I"⟩) ∈ lw_all := lw_g (lw_at lw_ms 10 rfl) rfl
theorem qs11 : (Cond.selects "BridgeBoard" ⟨"BridgeBoard", "keep", "(I)V"⟩ ⟨"BridgeBoard", "keep", "(I)V"⟩) ∈ lw_all := lw_g (lw_at lw_ms 11 rfl) rfl
theorem qs12 : (Cond.selects "BridgeBoard" ⟨"BridgeBoard", "guess", "(I)Z"⟩ ⟨"BridgeBoard", "guess", "(I)Z"⟩) ∈ lw_all := lw_g (lw_at lw_ms 12 rfl) rfl
theorem qs13 : (Cond.selects "BridgeBoardModel" ⟨"BridgeBoardModel", "held", "()I"⟩ ⟨"BridgeBoardModel", "held", "()I"⟩) ∈ lw_all := lw_g (lw_at lw_ms 13 rfl) rfl
theorem qs14 : (Cond.selects "BridgeBoardModel" ⟨"BridgeBoardModel", "survey", "()V"⟩ ⟨"BridgeBoardModel", "survey", "()V"⟩) ∈ lw_all := lw_g (lw_at lw_ms 14 rfl) rfl
theorem qs15 : (Cond.selects "BridgeBoardModel" ⟨"BridgeBoardModel", "look", "(III)V"⟩ ⟨"BridgeBoardModel", "look", "(III)V"⟩) ∈ lw_all := lw_g (lw_at lw_ms 15 rfl) rfl
theorem qs16 : (Cond.selects "BridgeBoardModel" ⟨"BridgeBoardModel", "count", "(II)I"⟩ ⟨"BridgeBoardModel", "count", "(II)I"⟩) ∈ lw_all := lw_g (lw_at lw_ms 16 rfl) rfl
theorem qs17 : (Cond.selects "BridgeBoardModel" ⟨"BridgeBoardModel", "begin", "()V"⟩ ⟨"BridgeBoardModel", "begin", "()V"⟩) ∈ lw_all := lw_g (lw_at lw_ms 17 rfl) rfl
theorem qs18 : (Cond.selects "BridgeBoardModel" ⟨"BridgeBoardModel", "solves", "()Z"⟩ ⟨"BridgeBoardModel", "solves", "()Z"⟩) ∈ lw_all := lw_g (lw_at lw_ms 18 rfl) rfl
theorem qs19 : (Cond.selects "BridgeBoardModel" ⟨"BridgeBoardModel", "summed", "()Z"⟩ ⟨"BridgeBoardModel", "summed", "()Z"⟩) ∈ lw_all := lw_g (lw_at lw_ms 19 rfl) rfl
theorem qs20 : (Cond.selects "BridgeBoardModel" ⟨"BridgeBoardModel", "apart", "()Z"⟩ ⟨"BridgeBoardModel", "apart", "()Z"⟩) ∈ lw_all := lw_g (lw_at lw_ms 20 rfl) rfl
theorem qs21 : (Cond.selects "BridgeBoardModel" ⟨"BridgeBoardModel", "joined", "()Z"⟩ ⟨"BridgeBoardModel", "joined", "()Z"⟩) ∈ lw_all := lw_g (lw_at lw_ms 21 rfl) rfl
theorem qs22 : (Cond.selects "BridgeBoardModel" ⟨"BridgeBoardModel", "next", "()Z"⟩ ⟨"BridgeBoardModel", "next", "()Z"⟩) ∈ lw_all := lw_g (lw_at lw_ms 22 rfl) rfl
end
section
/-! BridgeBoard -/
set_option maxRecDepth 100000
def RX0 : String := "BridgeBoard"
def TX0 : u_T := fun k => match k with
  | 0 => ("BridgeBoard", "number", "[I", true)
  | 1 => ("BridgeBoard", "islands", "I", false)
  | 2 => ("BridgeBoard", "listed", "I", false)
  | 3 => ("BridgeBoard", "cellOf", "[I", true)
  | 4 => ("BridgeBoard", "indexAt", "[I", true)
  | 5 => ("BridgeBoard", "gapCount", "I", false)
  | 6 => ("BridgeBoard", "near", "[I", true)
  | 7 => ("BridgeBoard", "distant", "[I", true)
  | 8 => ("BridgeBoard", "between", "[J", true)
  | 9 => ("BridgeBoard", "crossing", "[I", true)
  | 10 => ("BridgeBoard", "solved", "Z", false)
  | 11 => ("BridgeBoard", "solutionCount", "I", false)
  | 12 => ("BridgeBoard", "leastSolution", "I", false)
  | 13 => ("BridgeBoard", "countWith", "[I", true)
  | 14 => ("BridgeBoard", "domains", "[I", true)
  | 15 => ("BridgeBoard", "choiceGap", "[I", true)
  | _ => ("BridgeBoard", "nextBridges", "[I", true)
def tyX0 : Nat → FieldType := fun k => match k with
  | 0 => .array .int
  | 1 => .int
  | 2 => .int
  | 3 => .array .int
  | 4 => .array .int
  | 5 => .int
  | 6 => .array .int
  | 7 => .array .int
  | 8 => .array .long
  | 9 => .array .int
  | 10 => .boolean
  | 11 => .int
  | 12 => .int
  | 13 => .array .int
  | 14 => .array .int
  | 15 => .array .int
  | _ => .array .int
abbrev wsX00 : List Cond := u_ws RX0 TX0 17
set_option maxRecDepth 100000 in
theorem nmX0 : ∀ a, a < 17 → ∀ b, b < 17 → a ≠ b → (TX0 a).2.1 ≠ (TX0 b).2.1 := by decide +kernel
set_option maxRecDepth 100000 in
theorem tyX0_ok : ∀ k, k < 17 → parseFieldDescriptor (TX0 k).2.2.1 = some (tyX0 k) := by decide +kernel
abbrev cX0_init : ByteArray := prog_1_method_1_code
def yX0_init : MethodName := ⟨RX0, "<init>", "()V"⟩
theorem dX0_init_0 : decode cX0_init 0 = .ok (.aload_n 0, 1) := by decide +kernel
theorem dX0_init_1 : decode cX0_init 1 = .ok (.invokespecial 1, 3) := by decide +kernel
theorem dX0_init_4 : decode cX0_init 4 = .ok (.aload_n 0, 1) := by decide +kernel
theorem dX0_init_5 : decode cX0_init 5 = .ok (.bipush 36, 2) := by decide +kernel
theorem dX0_init_7 : decode cX0_init 7 = .ok (.newarray .int, 2) := by decide +kernel
theorem dX0_init_9 : decode cX0_init 9 = .ok (.putfield 7, 3) := by decide +kernel
theorem dX0_init_12 : decode cX0_init 12 = .ok (.aload_n 0, 1) := by decide +kernel
theorem dX0_init_13 : decode cX0_init 13 = .ok (.bipush 8, 2) := by decide +kernel
theorem dX0_init_15 : decode cX0_init 15 = .ok (.newarray .int, 2) := by decide +kernel
theorem dX0_init_17 : decode cX0_init 17 = .ok (.putfield 13, 3) := by decide +kernel
theorem dX0_init_20 : decode cX0_init 20 = .ok (.aload_n 0, 1) := by decide +kernel
theorem dX0_init_21 : decode cX0_init 21 = .ok (.bipush 36, 2) := by decide +kernel
theorem dX0_init_23 : decode cX0_init 23 = .ok (.newarray .int, 2) := by decide +kernel
theorem dX0_init_25 : decode cX0_init 25 = .ok (.putfield 16, 3) := by decide +kernel
theorem dX0_init_28 : decode cX0_init 28 = .ok (.aload_n 0, 1) := by decide +kernel
theorem dX0_init_29 : decode cX0_init 29 = .ok (.bipush 16, 2) := by decide +kernel
theorem dX0_init_31 : decode cX0_init 31 = .ok (.newarray .int, 2) := by decide +kernel
theorem dX0_init_33 : decode cX0_init 33 = .ok (.putfield 19, 3) := by decide +kernel
theorem dX0_init_36 : decode cX0_init 36 = .ok (.aload_n 0, 1) := by decide +kernel
theorem dX0_init_37 : decode cX0_init 37 = .ok (.bipush 16, 2) := by decide +kernel
theorem dX0_init_39 : decode cX0_init 39 = .ok (.newarray .int, 2) := by decide +kernel
theorem dX0_init_41 : decode cX0_init 41 = .ok (.putfield 22, 3) := by decide +kernel
theorem dX0_init_44 : decode cX0_init 44 = .ok (.aload_n 0, 1) := by decide +kernel
theorem dX0_init_45 : decode cX0_init 45 = .ok (.bipush 16, 2) := by decide +kernel
theorem dX0_init_47 : decode cX0_init 47 = .ok (.newarray .long, 2) := by decide +kernel
theorem dX0_init_49 : decode cX0_init 49 = .ok (.putfield 25, 3) := by decide +kernel
theorem dX0_init_52 : decode cX0_init 52 = .ok (.aload_n 0, 1) := by decide +kernel
theorem dX0_init_53 : decode cX0_init 53 = .ok (.bipush 16, 2) := by decide +kernel
theorem dX0_init_55 : decode cX0_init 55 = .ok (.newarray .int, 2) := by decide +kernel
theorem dX0_init_57 : decode cX0_init 57 = .ok (.putfield 29, 3) := by decide +kernel
theorem dX0_init_60 : decode cX0_init 60 = .ok (.aload_n 0, 1) := by decide +kernel
theorem dX0_init_61 : decode cX0_init 61 = .ok (.bipush 24, 2) := by decide +kernel
theorem dX0_init_63 : decode cX0_init 63 = .ok (.newarray .int, 2) := by decide +kernel
theorem dX0_init_65 : decode cX0_init 65 = .ok (.putfield 32, 3) := by decide +kernel
theorem dX0_init_68 : decode cX0_init 68 = .ok (.aload_n 0, 1) := by decide +kernel
theorem dX0_init_69 : decode cX0_init 69 = .ok (.bipush 10, 2) := by decide +kernel
theorem dX0_init_71 : decode cX0_init 71 = .ok (.newarray .int, 2) := by decide +kernel
theorem dX0_init_73 : decode cX0_init 73 = .ok (.putfield 35, 3) := by decide +kernel
theorem dX0_init_76 : decode cX0_init 76 = .ok (.aload_n 0, 1) := by decide +kernel
theorem dX0_init_77 : decode cX0_init 77 = .ok (.bipush 10, 2) := by decide +kernel
theorem dX0_init_79 : decode cX0_init 79 = .ok (.newarray .int, 2) := by decide +kernel
theorem dX0_init_81 : decode cX0_init 81 = .ok (.putfield 38, 3) := by decide +kernel
theorem dX0_init_84 : decode cX0_init 84 = .ok (.aload_n 0, 1) := by decide +kernel
theorem dX0_init_85 : decode cX0_init 85 = .ok (.bipush 10, 2) := by decide +kernel
theorem dX0_init_87 : decode cX0_init 87 = .ok (.newarray .int, 2) := by decide +kernel
theorem dX0_init_89 : decode cX0_init 89 = .ok (.putfield 41, 3) := by decide +kernel
theorem dX0_init_92 : decode cX0_init 92 = .ok (.aload_n 0, 1) := by decide +kernel
theorem dX0_init_93 : decode cX0_init 93 = .ok (.invokevirtual 44, 3) := by decide +kernel
theorem dX0_init_96 : decode cX0_init 96 = .ok (.return_, 1) := by decide +kernel
abbrev cX0_listGaps : ByteArray := prog_1_method_12_code
def yX0_listGaps : MethodName := ⟨RX0, "listGaps", "()V"⟩
theorem dX0_listGaps_0 : decode cX0_listGaps 0 = .ok (.aload_n 0, 1) := by decide +kernel
theorem dX0_listGaps_1 : decode cX0_listGaps 1 = .ok (.iconst 0, 1) := by decide +kernel
theorem dX0_listGaps_2 : decode cX0_listGaps 2 = .ok (.putfield 75, 3) := by decide +kernel
theorem dX0_listGaps_5 : decode cX0_listGaps 5 = .ok (.aload_n 0, 1) := by decide +kernel
theorem dX0_listGaps_6 : decode cX0_listGaps 6 = .ok (.iconst 0, 1) := by decide +kernel
theorem dX0_listGaps_7 : decode cX0_listGaps 7 = .ok (.putfield 79, 3) := by decide +kernel
theorem dX0_listGaps_10 : decode cX0_listGaps 10 = .ok (.iconst 0, 1) := by decide +kernel
theorem dX0_listGaps_11 : decode cX0_listGaps 11 = .ok (.istore_n 1, 1) := by decide +kernel
theorem dX0_listGaps_12 : decode cX0_listGaps 12 = .ok (.iload_n 1, 1) := by decide +kernel
theorem dX0_listGaps_13 : decode cX0_listGaps 13 = .ok (.bipush 36, 2) := by decide +kernel
theorem dX0_listGaps_15 : decode cX0_listGaps 15 = .ok (.if_icmp .ge 55, 3) := by decide +kernel
theorem dX0_listGaps_18 : decode cX0_listGaps 18 = .ok (.aload_n 0, 1) := by decide +kernel
theorem dX0_listGaps_19 : decode cX0_listGaps 19 = .ok (.getfield 16, 3) := by decide +kernel
theorem dX0_listGaps_22 : decode cX0_listGaps 22 = .ok (.iload_n 1, 1) := by decide +kernel
theorem dX0_listGaps_23 : decode cX0_listGaps 23 = .ok (.iconst (-1), 1) := by decide +kernel
theorem dX0_listGaps_24 : decode cX0_listGaps 24 = .ok (.iastore, 1) := by decide +kernel
theorem dX0_listGaps_25 : decode cX0_listGaps 25 = .ok (.aload_n 0, 1) := by decide +kernel
theorem dX0_listGaps_26 : decode cX0_listGaps 26 = .ok (.getfield 7, 3) := by decide +kernel
theorem dX0_listGaps_29 : decode cX0_listGaps 29 = .ok (.iload_n 1, 1) := by decide +kernel
theorem dX0_listGaps_30 : decode cX0_listGaps 30 = .ok (.iaload, 1) := by decide +kernel
theorem dX0_listGaps_31 : decode cX0_listGaps 31 = .ok (.ifCond .le 33, 3) := by decide +kernel
theorem dX0_listGaps_34 : decode cX0_listGaps 34 = .ok (.aload_n 0, 1) := by decide +kernel
theorem dX0_listGaps_35 : decode cX0_listGaps 35 = .ok (.getfield 16, 3) := by decide +kernel
theorem dX0_listGaps_38 : decode cX0_listGaps 38 = .ok (.iload_n 1, 1) := by decide +kernel
theorem dX0_listGaps_39 : decode cX0_listGaps 39 = .ok (.aload_n 0, 1) := by decide +kernel
theorem dX0_listGaps_40 : decode cX0_listGaps 40 = .ok (.getfield 79, 3) := by decide +kernel
theorem dX0_listGaps_43 : decode cX0_listGaps 43 = .ok (.iastore, 1) := by decide +kernel
theorem dX0_listGaps_44 : decode cX0_listGaps 44 = .ok (.aload_n 0, 1) := by decide +kernel
theorem dX0_listGaps_45 : decode cX0_listGaps 45 = .ok (.getfield 13, 3) := by decide +kernel
theorem dX0_listGaps_48 : decode cX0_listGaps 48 = .ok (.aload_n 0, 1) := by decide +kernel
theorem dX0_listGaps_49 : decode cX0_listGaps 49 = .ok (.getfield 79, 3) := by decide +kernel
theorem dX0_listGaps_52 : decode cX0_listGaps 52 = .ok (.iload_n 1, 1) := by decide +kernel
theorem dX0_listGaps_53 : decode cX0_listGaps 53 = .ok (.iastore, 1) := by decide +kernel
theorem dX0_listGaps_54 : decode cX0_listGaps 54 = .ok (.aload_n 0, 1) := by decide +kernel
theorem dX0_listGaps_55 : decode cX0_listGaps 55 = .ok (.dup, 1) := by decide +kernel
theorem dX0_listGaps_56 : decode cX0_listGaps 56 = .ok (.getfield 79, 3) := by decide +kernel
theorem dX0_listGaps_59 : decode cX0_listGaps 59 = .ok (.iconst 1, 1) := by decide +kernel
theorem dX0_listGaps_60 : decode cX0_listGaps 60 = .ok (.iadd, 1) := by decide +kernel
theorem dX0_listGaps_61 : decode cX0_listGaps 61 = .ok (.putfield 79, 3) := by decide +kernel
theorem dX0_listGaps_64 : decode cX0_listGaps 64 = .ok (.iinc 1 1, 3) := by decide +kernel
theorem dX0_listGaps_67 : decode cX0_listGaps 67 = .ok (.goto (-55), 3) := by decide +kernel
theorem dX0_listGaps_70 : decode cX0_listGaps 70 = .ok (.aload_n 0, 1) := by decide +kernel
theorem dX0_listGaps_71 : decode cX0_listGaps 71 = .ok (.iconst 0, 1) := by decide +kernel
theorem dX0_listGaps_72 : decode cX0_listGaps 72 = .ok (.putfield 55, 3) := by decide +kernel
theorem dX0_listGaps_75 : decode cX0_listGaps 75 = .ok (.iconst 0, 1) := by decide +kernel
theorem dX0_listGaps_76 : decode cX0_listGaps 76 = .ok (.istore_n 1, 1) := by decide +kernel
theorem dX0_listGaps_77 : decode cX0_listGaps 77 = .ok (.iload_n 1, 1) := by decide +kernel
theorem dX0_listGaps_78 : decode cX0_listGaps 78 = .ok (.aload_n 0, 1) := by decide +kernel
theorem dX0_listGaps_79 : decode cX0_listGaps 79 = .ok (.getfield 79, 3) := by decide +kernel
theorem dX0_listGaps_82 : decode cX0_listGaps 82 = .ok (.if_icmp .ge 43, 3) := by decide +kernel
theorem dX0_listGaps_85 : decode cX0_listGaps 85 = .ok (.aload_n 0, 1) := by decide +kernel
theorem dX0_listGaps_86 : decode cX0_listGaps 86 = .ok (.getfield 13, 3) := by decide +kernel
theorem dX0_listGaps_89 : decode cX0_listGaps 89 = .ok (.iload_n 1, 1) := by decide +kernel
theorem dX0_listGaps_90 : decode cX0_listGaps 90 = .ok (.iaload, 1) := by decide +kernel
theorem dX0_listGaps_91 : decode cX0_listGaps 91 = .ok (.istore_n 2, 1) := by decide +kernel
theorem dX0_listGaps_92 : decode cX0_listGaps 92 = .ok (.aload_n 0, 1) := by decide +kernel
theorem dX0_listGaps_93 : decode cX0_listGaps 93 = .ok (.iload_n 1, 1) := by decide +kernel
theorem dX0_listGaps_94 : decode cX0_listGaps 94 = .ok (.iload_n 2, 1) := by decide +kernel
theorem dX0_listGaps_95 : decode cX0_listGaps 95 = .ok (.iconst 1, 1) := by decide +kernel
theorem dX0_listGaps_96 : decode cX0_listGaps 96 = .ok (.iconst 5, 1) := by decide +kernel
theorem dX0_listGaps_97 : decode cX0_listGaps 97 = .ok (.iload_n 2, 1) := by decide +kernel
theorem dX0_listGaps_98 : decode cX0_listGaps 98 = .ok (.bipush 6, 2) := by decide +kernel
theorem dX0_listGaps_100 : decode cX0_listGaps 100 = .ok (.irem, 1) := by decide +kernel
theorem dX0_listGaps_101 : decode cX0_listGaps 101 = .ok (.isub, 1) := by decide +kernel
theorem dX0_listGaps_102 : decode cX0_listGaps 102 = .ok (.invokevirtual 82, 3) := by decide +kernel
theorem dX0_listGaps_105 : decode cX0_listGaps 105 = .ok (.aload_n 0, 1) := by decide +kernel
theorem dX0_listGaps_106 : decode cX0_listGaps 106 = .ok (.iload_n 1, 1) := by decide +kernel
theorem dX0_listGaps_107 : decode cX0_listGaps 107 = .ok (.iload_n 2, 1) := by decide +kernel
theorem dX0_listGaps_108 : decode cX0_listGaps 108 = .ok (.bipush 6, 2) := by decide +kernel
theorem dX0_listGaps_110 : decode cX0_listGaps 110 = .ok (.iconst 5, 1) := by decide +kernel
theorem dX0_listGaps_111 : decode cX0_listGaps 111 = .ok (.iload_n 2, 1) := by decide +kernel
theorem dX0_listGaps_112 : decode cX0_listGaps 112 = .ok (.bipush 6, 2) := by decide +kernel
theorem dX0_listGaps_114 : decode cX0_listGaps 114 = .ok (.idiv, 1) := by decide +kernel
theorem dX0_listGaps_115 : decode cX0_listGaps 115 = .ok (.isub, 1) := by decide +kernel
theorem dX0_listGaps_116 : decode cX0_listGaps 116 = .ok (.invokevirtual 82, 3) := by decide +kernel
theorem dX0_listGaps_119 : decode cX0_listGaps 119 = .ok (.iinc 1 1, 3) := by decide +kernel
theorem dX0_listGaps_122 : decode cX0_listGaps 122 = .ok (.goto (-45), 3) := by decide +kernel
theorem dX0_listGaps_125 : decode cX0_listGaps 125 = .ok (.iconst 0, 1) := by decide +kernel
theorem dX0_listGaps_126 : decode cX0_listGaps 126 = .ok (.istore_n 1, 1) := by decide +kernel
theorem dX0_listGaps_127 : decode cX0_listGaps 127 = .ok (.iload_n 1, 1) := by decide +kernel
theorem dX0_listGaps_128 : decode cX0_listGaps 128 = .ok (.aload_n 0, 1) := by decide +kernel
theorem dX0_listGaps_129 : decode cX0_listGaps 129 = .ok (.getfield 55, 3) := by decide +kernel
theorem dX0_listGaps_132 : decode cX0_listGaps 132 = .ok (.if_icmp .ge 67, 3) := by decide +kernel
theorem dX0_listGaps_135 : decode cX0_listGaps 135 = .ok (.aload_n 0, 1) := by decide +kernel
theorem dX0_listGaps_136 : decode cX0_listGaps 136 = .ok (.getfield 29, 3) := by decide +kernel
theorem dX0_listGaps_139 : decode cX0_listGaps 139 = .ok (.iload_n 1, 1) := by decide +kernel
theorem dX0_listGaps_140 : decode cX0_listGaps 140 = .ok (.iconst 0, 1) := by decide +kernel
theorem dX0_listGaps_141 : decode cX0_listGaps 141 = .ok (.iastore, 1) := by decide +kernel
theorem dX0_listGaps_142 : decode cX0_listGaps 142 = .ok (.iconst 0, 1) := by decide +kernel
theorem dX0_listGaps_143 : decode cX0_listGaps 143 = .ok (.istore_n 2, 1) := by decide +kernel
theorem dX0_listGaps_144 : decode cX0_listGaps 144 = .ok (.iload_n 2, 1) := by decide +kernel
theorem dX0_listGaps_145 : decode cX0_listGaps 145 = .ok (.aload_n 0, 1) := by decide +kernel
theorem dX0_listGaps_146 : decode cX0_listGaps 146 = .ok (.getfield 55, 3) := by decide +kernel
theorem dX0_listGaps_149 : decode cX0_listGaps 149 = .ok (.if_icmp .ge 44, 3) := by decide +kernel
theorem dX0_listGaps_152 : decode cX0_listGaps 152 = .ok (.iload_n 2, 1) := by decide +kernel
theorem dX0_listGaps_153 : decode cX0_listGaps 153 = .ok (.iload_n 1, 1) := by decide +kernel
theorem dX0_listGaps_154 : decode cX0_listGaps 154 = .ok (.if_icmp .eq 33, 3) := by decide +kernel
theorem dX0_listGaps_157 : decode cX0_listGaps 157 = .ok (.aload_n 0, 1) := by decide +kernel
theorem dX0_listGaps_158 : decode cX0_listGaps 158 = .ok (.getfield 25, 3) := by decide +kernel
theorem dX0_listGaps_161 : decode cX0_listGaps 161 = .ok (.iload_n 1, 1) := by decide +kernel
theorem dX0_listGaps_162 : decode cX0_listGaps 162 = .ok (.laload, 1) := by decide +kernel
theorem dX0_listGaps_163 : decode cX0_listGaps 163 = .ok (.aload_n 0, 1) := by decide +kernel
theorem dX0_listGaps_164 : decode cX0_listGaps 164 = .ok (.getfield 25, 3) := by decide +kernel
theorem dX0_listGaps_167 : decode cX0_listGaps 167 = .ok (.iload_n 2, 1) := by decide +kernel
theorem dX0_listGaps_168 : decode cX0_listGaps 168 = .ok (.laload, 1) := by decide +kernel
theorem dX0_listGaps_169 : decode cX0_listGaps 169 = .ok (.land, 1) := by decide +kernel
theorem dX0_listGaps_170 : decode cX0_listGaps 170 = .ok (.lconst 0, 1) := by decide +kernel
theorem dX0_listGaps_171 : decode cX0_listGaps 171 = .ok (.lcmp, 1) := by decide +kernel
theorem dX0_listGaps_172 : decode cX0_listGaps 172 = .ok (.ifCond .eq 15, 3) := by decide +kernel
theorem dX0_listGaps_175 : decode cX0_listGaps 175 = .ok (.aload_n 0, 1) := by decide +kernel
theorem dX0_listGaps_176 : decode cX0_listGaps 176 = .ok (.getfield 29, 3) := by decide +kernel
theorem dX0_listGaps_179 : decode cX0_listGaps 179 = .ok (.iload_n 1, 1) := by decide +kernel
theorem dX0_listGaps_180 : decode cX0_listGaps 180 = .ok (.dup2, 1) := by decide +kernel
theorem dX0_listGaps_181 : decode cX0_listGaps 181 = .ok (.iaload, 1) := by decide +kernel
theorem dX0_listGaps_182 : decode cX0_listGaps 182 = .ok (.iconst 1, 1) := by decide +kernel
theorem dX0_listGaps_183 : decode cX0_listGaps 183 = .ok (.iload_n 2, 1) := by decide +kernel
theorem dX0_listGaps_184 : decode cX0_listGaps 184 = .ok (.ishl, 1) := by decide +kernel
theorem dX0_listGaps_185 : decode cX0_listGaps 185 = .ok (.ior, 1) := by decide +kernel
theorem dX0_listGaps_186 : decode cX0_listGaps 186 = .ok (.iastore, 1) := by decide +kernel
theorem dX0_listGaps_187 : decode cX0_listGaps 187 = .ok (.iinc 2 1, 3) := by decide +kernel
theorem dX0_listGaps_190 : decode cX0_listGaps 190 = .ok (.goto (-46), 3) := by decide +kernel
theorem dX0_listGaps_193 : decode cX0_listGaps 193 = .ok (.iinc 1 1, 3) := by decide +kernel
theorem dX0_listGaps_196 : decode cX0_listGaps 196 = .ok (.goto (-69), 3) := by decide +kernel
theorem dX0_listGaps_199 : decode cX0_listGaps 199 = .ok (.return_, 1) := by decide +kernel
abbrev cX0_look : ByteArray := prog_1_method_13_code
def yX0_look : MethodName := ⟨RX0, "look", "(IIII)V"⟩
theorem dX0_look_0 : decode cX0_look 0 = .ok (.lconst 0, 1) := by decide +kernel
theorem dX0_look_1 : decode cX0_look 1 = .ok (.lstore 5, 2) := by decide +kernel
theorem dX0_look_3 : decode cX0_look 3 = .ok (.iconst 1, 1) := by decide +kernel
theorem dX0_look_4 : decode cX0_look 4 = .ok (.istore 7, 2) := by decide +kernel
theorem dX0_look_6 : decode cX0_look 6 = .ok (.iload 7, 2) := by decide +kernel
theorem dX0_look_8 : decode cX0_look 8 = .ok (.iload 4, 2) := by decide +kernel
theorem dX0_look_10 : decode cX0_look 10 = .ok (.if_icmp .gt 84, 3) := by decide +kernel
theorem dX0_look_13 : decode cX0_look 13 = .ok (.iload_n 2, 1) := by decide +kernel
theorem dX0_look_14 : decode cX0_look 14 = .ok (.iload_n 3, 1) := by decide +kernel
theorem dX0_look_15 : decode cX0_look 15 = .ok (.iload 7, 2) := by decide +kernel
theorem dX0_look_17 : decode cX0_look 17 = .ok (.imul, 1) := by decide +kernel
theorem dX0_look_18 : decode cX0_look 18 = .ok (.iadd, 1) := by decide +kernel
theorem dX0_look_19 : decode cX0_look 19 = .ok (.istore 8, 2) := by decide +kernel
theorem dX0_look_21 : decode cX0_look 21 = .ok (.aload_n 0, 1) := by decide +kernel
theorem dX0_look_22 : decode cX0_look 22 = .ok (.getfield 16, 3) := by decide +kernel
theorem dX0_look_25 : decode cX0_look 25 = .ok (.iload 8, 2) := by decide +kernel
theorem dX0_look_27 : decode cX0_look 27 = .ok (.iaload, 1) := by decide +kernel
theorem dX0_look_28 : decode cX0_look 28 = .ok (.ifCond .lt 51, 3) := by decide +kernel
theorem dX0_look_31 : decode cX0_look 31 = .ok (.aload_n 0, 1) := by decide +kernel
theorem dX0_look_32 : decode cX0_look 32 = .ok (.getfield 19, 3) := by decide +kernel
theorem dX0_look_35 : decode cX0_look 35 = .ok (.aload_n 0, 1) := by decide +kernel
theorem dX0_look_36 : decode cX0_look 36 = .ok (.getfield 55, 3) := by decide +kernel
theorem dX0_look_39 : decode cX0_look 39 = .ok (.iload_n 1, 1) := by decide +kernel
theorem dX0_look_40 : decode cX0_look 40 = .ok (.iastore, 1) := by decide +kernel
theorem dX0_look_41 : decode cX0_look 41 = .ok (.aload_n 0, 1) := by decide +kernel
theorem dX0_look_42 : decode cX0_look 42 = .ok (.getfield 22, 3) := by decide +kernel
theorem dX0_look_45 : decode cX0_look 45 = .ok (.aload_n 0, 1) := by decide +kernel
theorem dX0_look_46 : decode cX0_look 46 = .ok (.getfield 55, 3) := by decide +kernel
theorem dX0_look_49 : decode cX0_look 49 = .ok (.aload_n 0, 1) := by decide +kernel
theorem dX0_look_50 : decode cX0_look 50 = .ok (.getfield 16, 3) := by decide +kernel
theorem dX0_look_53 : decode cX0_look 53 = .ok (.iload 8, 2) := by decide +kernel
theorem dX0_look_55 : decode cX0_look 55 = .ok (.iaload, 1) := by decide +kernel
theorem dX0_look_56 : decode cX0_look 56 = .ok (.iastore, 1) := by decide +kernel
theorem dX0_look_57 : decode cX0_look 57 = .ok (.aload_n 0, 1) := by decide +kernel
theorem dX0_look_58 : decode cX0_look 58 = .ok (.getfield 25, 3) := by decide +kernel
theorem dX0_look_61 : decode cX0_look 61 = .ok (.aload_n 0, 1) := by decide +kernel
theorem dX0_look_62 : decode cX0_look 62 = .ok (.getfield 55, 3) := by decide +kernel
theorem dX0_look_65 : decode cX0_look 65 = .ok (.lload 5, 2) := by decide +kernel
theorem dX0_look_67 : decode cX0_look 67 = .ok (.lastore, 1) := by decide +kernel
theorem dX0_look_68 : decode cX0_look 68 = .ok (.aload_n 0, 1) := by decide +kernel
theorem dX0_look_69 : decode cX0_look 69 = .ok (.dup, 1) := by decide +kernel
theorem dX0_look_70 : decode cX0_look 70 = .ok (.getfield 55, 3) := by decide +kernel
theorem dX0_look_73 : decode cX0_look 73 = .ok (.iconst 1, 1) := by decide +kernel
theorem dX0_look_74 : decode cX0_look 74 = .ok (.iadd, 1) := by decide +kernel
theorem dX0_look_75 : decode cX0_look 75 = .ok (.putfield 55, 3) := by decide +kernel
theorem dX0_look_78 : decode cX0_look 78 = .ok (.return_, 1) := by decide +kernel
theorem dX0_look_79 : decode cX0_look 79 = .ok (.lload 5, 2) := by decide +kernel
theorem dX0_look_81 : decode cX0_look 81 = .ok (.lconst 1, 1) := by decide +kernel
theorem dX0_look_82 : decode cX0_look 82 = .ok (.iload 8, 2) := by decide +kernel
theorem dX0_look_84 : decode cX0_look 84 = .ok (.lshl, 1) := by decide +kernel
theorem dX0_look_85 : decode cX0_look 85 = .ok (.lor, 1) := by decide +kernel
theorem dX0_look_86 : decode cX0_look 86 = .ok (.lstore 5, 2) := by decide +kernel
theorem dX0_look_88 : decode cX0_look 88 = .ok (.iinc 7 1, 3) := by decide +kernel
theorem dX0_look_91 : decode cX0_look 91 = .ok (.goto (-85), 3) := by decide +kernel
theorem dX0_look_94 : decode cX0_look 94 = .ok (.return_, 1) := by decide +kernel
abbrev cX0_place : ByteArray := prog_1_method_2_code
def yX0_place : MethodName := ⟨RX0, "place", "(III)I"⟩
theorem dX0_place_0 : decode cX0_place 0 = .ok (.iload_n 1, 1) := by decide +kernel
theorem dX0_place_1 : decode cX0_place 1 = .ok (.iload_n 2, 1) := by decide +kernel
theorem dX0_place_2 : decode cX0_place 2 = .ok (.invokestatic 47, 3) := by decide +kernel
theorem dX0_place_5 : decode cX0_place 5 = .ok (.ifCond .eq 14, 3) := by decide +kernel
theorem dX0_place_8 : decode cX0_place 8 = .ok (.iload_n 3, 1) := by decide +kernel
theorem dX0_place_9 : decode cX0_place 9 = .ok (.iconst 1, 1) := by decide +kernel
theorem dX0_place_10 : decode cX0_place 10 = .ok (.if_icmp .lt 9, 3) := by decide +kernel
theorem dX0_place_13 : decode cX0_place 13 = .ok (.iload_n 3, 1) := by decide +kernel
theorem dX0_place_14 : decode cX0_place 14 = .ok (.bipush 8, 2) := by decide +kernel
theorem dX0_place_16 : decode cX0_place 16 = .ok (.if_icmp .le 5, 3) := by decide +kernel
theorem dX0_place_19 : decode cX0_place 19 = .ok (.iconst (-1), 1) := by decide +kernel
theorem dX0_place_20 : decode cX0_place 20 = .ok (.ireturn, 1) := by decide +kernel
theorem dX0_place_21 : decode cX0_place 21 = .ok (.bipush 6, 2) := by decide +kernel
theorem dX0_place_23 : decode cX0_place 23 = .ok (.iload_n 1, 1) := by decide +kernel
theorem dX0_place_24 : decode cX0_place 24 = .ok (.imul, 1) := by decide +kernel
theorem dX0_place_25 : decode cX0_place 25 = .ok (.iload_n 2, 1) := by decide +kernel
theorem dX0_place_26 : decode cX0_place 26 = .ok (.iadd, 1) := by decide +kernel
theorem dX0_place_27 : decode cX0_place 27 = .ok (.istore 4, 2) := by decide +kernel
theorem dX0_place_29 : decode cX0_place 29 = .ok (.aload_n 0, 1) := by decide +kernel
theorem dX0_place_30 : decode cX0_place 30 = .ok (.getfield 7, 3) := by decide +kernel
theorem dX0_place_33 : decode cX0_place 33 = .ok (.iload 4, 2) := by decide +kernel
theorem dX0_place_35 : decode cX0_place 35 = .ok (.iaload, 1) := by decide +kernel
theorem dX0_place_36 : decode cX0_place 36 = .ok (.ifCond .ne 24, 3) := by decide +kernel
theorem dX0_place_39 : decode cX0_place 39 = .ok (.aload_n 0, 1) := by decide +kernel
theorem dX0_place_40 : decode cX0_place 40 = .ok (.getfield 51, 3) := by decide +kernel
theorem dX0_place_43 : decode cX0_place 43 = .ok (.bipush 7, 2) := by decide +kernel
theorem dX0_place_45 : decode cX0_place 45 = .ok (.if_icmp .lt 5, 3) := by decide +kernel
theorem dX0_place_48 : decode cX0_place 48 = .ok (.iconst (-1), 1) := by decide +kernel
theorem dX0_place_49 : decode cX0_place 49 = .ok (.ireturn, 1) := by decide +kernel
theorem dX0_place_50 : decode cX0_place 50 = .ok (.aload_n 0, 1) := by decide +kernel
theorem dX0_place_51 : decode cX0_place 51 = .ok (.dup, 1) := by decide +kernel
theorem dX0_place_52 : decode cX0_place 52 = .ok (.getfield 51, 3) := by decide +kernel
theorem dX0_place_55 : decode cX0_place 55 = .ok (.iconst 1, 1) := by decide +kernel
theorem dX0_place_56 : decode cX0_place 56 = .ok (.iadd, 1) := by decide +kernel
theorem dX0_place_57 : decode cX0_place 57 = .ok (.putfield 51, 3) := by decide +kernel
theorem dX0_place_60 : decode cX0_place 60 = .ok (.aload_n 0, 1) := by decide +kernel
theorem dX0_place_61 : decode cX0_place 61 = .ok (.getfield 7, 3) := by decide +kernel
theorem dX0_place_64 : decode cX0_place 64 = .ok (.iload 4, 2) := by decide +kernel
theorem dX0_place_66 : decode cX0_place 66 = .ok (.iload_n 3, 1) := by decide +kernel
theorem dX0_place_67 : decode cX0_place 67 = .ok (.iastore, 1) := by decide +kernel
theorem dX0_place_68 : decode cX0_place 68 = .ok (.aload_n 0, 1) := by decide +kernel
theorem dX0_place_69 : decode cX0_place 69 = .ok (.invokevirtual 44, 3) := by decide +kernel
theorem dX0_place_72 : decode cX0_place 72 = .ok (.aload_n 0, 1) := by decide +kernel
theorem dX0_place_73 : decode cX0_place 73 = .ok (.getfield 51, 3) := by decide +kernel
theorem dX0_place_76 : decode cX0_place 76 = .ok (.ireturn, 1) := by decide +kernel
abbrev cX0_onBoard : ByteArray := prog_1_method_11_code
def yX0_onBoard : MethodName := ⟨RX0, "onBoard", "(II)Z"⟩
theorem dX0_onBoard_0 : decode cX0_onBoard 0 = .ok (.iload_n 0, 1) := by decide +kernel
theorem dX0_onBoard_1 : decode cX0_onBoard 1 = .ok (.ifCond .lt 23, 3) := by decide +kernel
theorem dX0_onBoard_4 : decode cX0_onBoard 4 = .ok (.iload_n 0, 1) := by decide +kernel
theorem dX0_onBoard_5 : decode cX0_onBoard 5 = .ok (.bipush 6, 2) := by decide +kernel
theorem dX0_onBoard_7 : decode cX0_onBoard 7 = .ok (.if_icmp .ge 17, 3) := by decide +kernel
theorem dX0_onBoard_10 : decode cX0_onBoard 10 = .ok (.iload_n 1, 1) := by decide +kernel
theorem dX0_onBoard_11 : decode cX0_onBoard 11 = .ok (.ifCond .lt 13, 3) := by decide +kernel
theorem dX0_onBoard_14 : decode cX0_onBoard 14 = .ok (.iload_n 1, 1) := by decide +kernel
theorem dX0_onBoard_15 : decode cX0_onBoard 15 = .ok (.bipush 6, 2) := by decide +kernel
theorem dX0_onBoard_17 : decode cX0_onBoard 17 = .ok (.if_icmp .ge 7, 3) := by decide +kernel
theorem dX0_onBoard_20 : decode cX0_onBoard 20 = .ok (.iconst 1, 1) := by decide +kernel
theorem dX0_onBoard_21 : decode cX0_onBoard 21 = .ok (.goto 4, 3) := by decide +kernel
theorem dX0_onBoard_24 : decode cX0_onBoard 24 = .ok (.iconst 0, 1) := by decide +kernel
theorem dX0_onBoard_25 : decode cX0_onBoard 25 = .ok (.ireturn, 1) := by decide +kernel
abbrev cX0_remove : ByteArray := prog_1_method_3_code
def yX0_remove : MethodName := ⟨RX0, "remove", "(II)I"⟩
theorem dX0_remove_0 : decode cX0_remove 0 = .ok (.iload_n 1, 1) := by decide +kernel
theorem dX0_remove_1 : decode cX0_remove 1 = .ok (.iload_n 2, 1) := by decide +kernel
theorem dX0_remove_2 : decode cX0_remove 2 = .ok (.invokestatic 47, 3) := by decide +kernel
theorem dX0_remove_5 : decode cX0_remove 5 = .ok (.ifCond .eq 17, 3) := by decide +kernel
theorem dX0_remove_8 : decode cX0_remove 8 = .ok (.aload_n 0, 1) := by decide +kernel
theorem dX0_remove_9 : decode cX0_remove 9 = .ok (.getfield 7, 3) := by decide +kernel
theorem dX0_remove_12 : decode cX0_remove 12 = .ok (.bipush 6, 2) := by decide +kernel
theorem dX0_remove_14 : decode cX0_remove 14 = .ok (.iload_n 1, 1) := by decide +kernel
theorem dX0_remove_15 : decode cX0_remove 15 = .ok (.imul, 1) := by decide +kernel
theorem dX0_remove_16 : decode cX0_remove 16 = .ok (.iload_n 2, 1) := by decide +kernel
theorem dX0_remove_17 : decode cX0_remove 17 = .ok (.iadd, 1) := by decide +kernel
theorem dX0_remove_18 : decode cX0_remove 18 = .ok (.iaload, 1) := by decide +kernel
theorem dX0_remove_19 : decode cX0_remove 19 = .ok (.ifCond .ne 5, 3) := by decide +kernel
theorem dX0_remove_22 : decode cX0_remove 22 = .ok (.iconst (-1), 1) := by decide +kernel
theorem dX0_remove_23 : decode cX0_remove 23 = .ok (.ireturn, 1) := by decide +kernel
theorem dX0_remove_24 : decode cX0_remove 24 = .ok (.aload_n 0, 1) := by decide +kernel
theorem dX0_remove_25 : decode cX0_remove 25 = .ok (.getfield 7, 3) := by decide +kernel
theorem dX0_remove_28 : decode cX0_remove 28 = .ok (.bipush 6, 2) := by decide +kernel
theorem dX0_remove_30 : decode cX0_remove 30 = .ok (.iload_n 1, 1) := by decide +kernel
theorem dX0_remove_31 : decode cX0_remove 31 = .ok (.imul, 1) := by decide +kernel
theorem dX0_remove_32 : decode cX0_remove 32 = .ok (.iload_n 2, 1) := by decide +kernel
theorem dX0_remove_33 : decode cX0_remove 33 = .ok (.iadd, 1) := by decide +kernel
theorem dX0_remove_34 : decode cX0_remove 34 = .ok (.iconst 0, 1) := by decide +kernel
theorem dX0_remove_35 : decode cX0_remove 35 = .ok (.iastore, 1) := by decide +kernel
theorem dX0_remove_36 : decode cX0_remove 36 = .ok (.aload_n 0, 1) := by decide +kernel
theorem dX0_remove_37 : decode cX0_remove 37 = .ok (.dup, 1) := by decide +kernel
theorem dX0_remove_38 : decode cX0_remove 38 = .ok (.getfield 51, 3) := by decide +kernel
theorem dX0_remove_41 : decode cX0_remove 41 = .ok (.iconst 1, 1) := by decide +kernel
theorem dX0_remove_42 : decode cX0_remove 42 = .ok (.isub, 1) := by decide +kernel
theorem dX0_remove_43 : decode cX0_remove 43 = .ok (.putfield 51, 3) := by decide +kernel
theorem dX0_remove_46 : decode cX0_remove 46 = .ok (.aload_n 0, 1) := by decide +kernel
theorem dX0_remove_47 : decode cX0_remove 47 = .ok (.invokevirtual 44, 3) := by decide +kernel
theorem dX0_remove_50 : decode cX0_remove 50 = .ok (.aload_n 0, 1) := by decide +kernel
theorem dX0_remove_51 : decode cX0_remove 51 = .ok (.getfield 51, 3) := by decide +kernel
theorem dX0_remove_54 : decode cX0_remove 54 = .ok (.ireturn, 1) := by decide +kernel
abbrev cX0_island : ByteArray := prog_1_method_4_code
def yX0_island : MethodName := ⟨RX0, "island", "(II)I"⟩
theorem dX0_island_0 : decode cX0_island 0 = .ok (.iload_n 1, 1) := by decide +kernel
theorem dX0_island_1 : decode cX0_island 1 = .ok (.iload_n 2, 1) := by decide +kernel
theorem dX0_island_2 : decode cX0_island 2 = .ok (.invokestatic 47, 3) := by decide +kernel
theorem dX0_island_5 : decode cX0_island 5 = .ok (.ifCond .eq 17, 3) := by decide +kernel
theorem dX0_island_8 : decode cX0_island 8 = .ok (.aload_n 0, 1) := by decide +kernel
theorem dX0_island_9 : decode cX0_island 9 = .ok (.getfield 7, 3) := by decide +kernel
theorem dX0_island_12 : decode cX0_island 12 = .ok (.bipush 6, 2) := by decide +kernel
theorem dX0_island_14 : decode cX0_island 14 = .ok (.iload_n 1, 1) := by decide +kernel
theorem dX0_island_15 : decode cX0_island 15 = .ok (.imul, 1) := by decide +kernel
theorem dX0_island_16 : decode cX0_island 16 = .ok (.iload_n 2, 1) := by decide +kernel
theorem dX0_island_17 : decode cX0_island 17 = .ok (.iadd, 1) := by decide +kernel
theorem dX0_island_18 : decode cX0_island 18 = .ok (.iaload, 1) := by decide +kernel
theorem dX0_island_19 : decode cX0_island 19 = .ok (.goto 4, 3) := by decide +kernel
theorem dX0_island_22 : decode cX0_island 22 = .ok (.iconst (-1), 1) := by decide +kernel
theorem dX0_island_23 : decode cX0_island 23 = .ok (.ireturn, 1) := by decide +kernel
abbrev cX0_gaps : ByteArray := prog_1_method_5_code
def yX0_gaps : MethodName := ⟨RX0, "gaps", "()I"⟩
theorem dX0_gaps_0 : decode cX0_gaps 0 = .ok (.aload_n 0, 1) := by decide +kernel
theorem dX0_gaps_1 : decode cX0_gaps 1 = .ok (.getfield 55, 3) := by decide +kernel
theorem dX0_gaps_4 : decode cX0_gaps 4 = .ok (.ireturn, 1) := by decide +kernel
abbrev cX0_end : ByteArray := prog_1_method_6_code
def yX0_end : MethodName := ⟨RX0, "end", "(IZ)I"⟩
theorem dX0_end_0 : decode cX0_end 0 = .ok (.iload_n 1, 1) := by decide +kernel
theorem dX0_end_1 : decode cX0_end 1 = .ok (.ifCond .lt 11, 3) := by decide +kernel
theorem dX0_end_4 : decode cX0_end 4 = .ok (.iload_n 1, 1) := by decide +kernel
theorem dX0_end_5 : decode cX0_end 5 = .ok (.aload_n 0, 1) := by decide +kernel
theorem dX0_end_6 : decode cX0_end 6 = .ok (.getfield 55, 3) := by decide +kernel
theorem dX0_end_9 : decode cX0_end 9 = .ok (.if_icmp .lt 5, 3) := by decide +kernel
theorem dX0_end_12 : decode cX0_end 12 = .ok (.iconst (-1), 1) := by decide +kernel
theorem dX0_end_13 : decode cX0_end 13 = .ok (.ireturn, 1) := by decide +kernel
theorem dX0_end_14 : decode cX0_end 14 = .ok (.aload_n 0, 1) := by decide +kernel
theorem dX0_end_15 : decode cX0_end 15 = .ok (.getfield 13, 3) := by decide +kernel
theorem dX0_end_18 : decode cX0_end 18 = .ok (.iload_n 2, 1) := by decide +kernel
theorem dX0_end_19 : decode cX0_end 19 = .ok (.ifCond .eq 12, 3) := by decide +kernel
theorem dX0_end_22 : decode cX0_end 22 = .ok (.aload_n 0, 1) := by decide +kernel
theorem dX0_end_23 : decode cX0_end 23 = .ok (.getfield 22, 3) := by decide +kernel
theorem dX0_end_26 : decode cX0_end 26 = .ok (.iload_n 1, 1) := by decide +kernel
theorem dX0_end_27 : decode cX0_end 27 = .ok (.iaload, 1) := by decide +kernel
theorem dX0_end_28 : decode cX0_end 28 = .ok (.goto 9, 3) := by decide +kernel
theorem dX0_end_31 : decode cX0_end 31 = .ok (.aload_n 0, 1) := by decide +kernel
theorem dX0_end_32 : decode cX0_end 32 = .ok (.getfield 19, 3) := by decide +kernel
theorem dX0_end_35 : decode cX0_end 35 = .ok (.iload_n 1, 1) := by decide +kernel
theorem dX0_end_36 : decode cX0_end 36 = .ok (.iaload, 1) := by decide +kernel
theorem dX0_end_37 : decode cX0_end 37 = .ok (.iaload, 1) := by decide +kernel
theorem dX0_end_38 : decode cX0_end 38 = .ok (.ireturn, 1) := by decide +kernel
abbrev cX0_solutions : ByteArray := prog_1_method_7_code
def yX0_solutions : MethodName := ⟨RX0, "solutions", "()I"⟩
theorem dX0_solutions_0 : decode cX0_solutions 0 = .ok (.aload_n 0, 1) := by decide +kernel
theorem dX0_solutions_1 : decode cX0_solutions 1 = .ok (.getfield 55, 3) := by decide +kernel
theorem dX0_solutions_4 : decode cX0_solutions 4 = .ok (.bipush 8, 2) := by decide +kernel
theorem dX0_solutions_6 : decode cX0_solutions 6 = .ok (.if_icmp .le 6, 3) := by decide +kernel
theorem dX0_solutions_9 : decode cX0_solutions 9 = .ok (.bipush (-2), 2) := by decide +kernel
theorem dX0_solutions_11 : decode cX0_solutions 11 = .ok (.ireturn, 1) := by decide +kernel
theorem dX0_solutions_12 : decode cX0_solutions 12 = .ok (.aload_n 0, 1) := by decide +kernel
theorem dX0_solutions_13 : decode cX0_solutions 13 = .ok (.invokevirtual 58, 3) := by decide +kernel
theorem dX0_solutions_16 : decode cX0_solutions 16 = .ok (.aload_n 0, 1) := by decide +kernel
theorem dX0_solutions_17 : decode cX0_solutions 17 = .ok (.getfield 61, 3) := by decide +kernel
theorem dX0_solutions_20 : decode cX0_solutions 20 = .ok (.ireturn, 1) := by decide +kernel
abbrev cX0_solve : ByteArray := prog_1_method_26_code
def yX0_solve : MethodName := ⟨RX0, "solve", "()V"⟩
theorem dX0_solve_0 : decode cX0_solve 0 = .ok (.aload_n 0, 1) := by decide +kernel
theorem dX0_solve_1 : decode cX0_solve 1 = .ok (.getfield 75, 3) := by decide +kernel
theorem dX0_solve_4 : decode cX0_solve 4 = .ok (.ifCond .eq 4, 3) := by decide +kernel
theorem dX0_solve_7 : decode cX0_solve 7 = .ok (.return_, 1) := by decide +kernel
theorem dX0_solve_8 : decode cX0_solve 8 = .ok (.aload_n 0, 1) := by decide +kernel
theorem dX0_solve_9 : decode cX0_solve 9 = .ok (.iconst 1, 1) := by decide +kernel
theorem dX0_solve_10 : decode cX0_solve 10 = .ok (.putfield 75, 3) := by decide +kernel
theorem dX0_solve_13 : decode cX0_solve 13 = .ok (.aload_n 0, 1) := by decide +kernel
theorem dX0_solve_14 : decode cX0_solve 14 = .ok (.iconst 0, 1) := by decide +kernel
theorem dX0_solve_15 : decode cX0_solve 15 = .ok (.putfield 61, 3) := by decide +kernel
theorem dX0_solve_18 : decode cX0_solve 18 = .ok (.aload_n 0, 1) := by decide +kernel
theorem dX0_solve_19 : decode cX0_solve 19 = .ok (.iconst 0, 1) := by decide +kernel
theorem dX0_solve_20 : decode cX0_solve 20 = .ok (.putfield 64, 3) := by decide +kernel
theorem dX0_solve_23 : decode cX0_solve 23 = .ok (.iconst 0, 1) := by decide +kernel
theorem dX0_solve_24 : decode cX0_solve 24 = .ok (.istore_n 1, 1) := by decide +kernel
theorem dX0_solve_25 : decode cX0_solve 25 = .ok (.iload_n 1, 1) := by decide +kernel
theorem dX0_solve_26 : decode cX0_solve 26 = .ok (.bipush 24, 2) := by decide +kernel
theorem dX0_solve_28 : decode cX0_solve 28 = .ok (.if_icmp .ge 16, 3) := by decide +kernel
theorem dX0_solve_31 : decode cX0_solve 31 = .ok (.aload_n 0, 1) := by decide +kernel
theorem dX0_solve_32 : decode cX0_solve 32 = .ok (.getfield 32, 3) := by decide +kernel
theorem dX0_solve_35 : decode cX0_solve 35 = .ok (.iload_n 1, 1) := by decide +kernel
theorem dX0_solve_36 : decode cX0_solve 36 = .ok (.iconst 0, 1) := by decide +kernel
theorem dX0_solve_37 : decode cX0_solve 37 = .ok (.iastore, 1) := by decide +kernel
theorem dX0_solve_38 : decode cX0_solve 38 = .ok (.iinc 1 1, 3) := by decide +kernel
theorem dX0_solve_41 : decode cX0_solve 41 = .ok (.goto (-16), 3) := by decide +kernel
theorem dX0_solve_44 : decode cX0_solve 44 = .ok (.iconst 1, 1) := by decide +kernel
theorem dX0_solve_45 : decode cX0_solve 45 = .ok (.iconst 3, 1) := by decide +kernel
theorem dX0_solve_46 : decode cX0_solve 46 = .ok (.aload_n 0, 1) := by decide +kernel
theorem dX0_solve_47 : decode cX0_solve 47 = .ok (.getfield 55, 3) := by decide +kernel
theorem dX0_solve_50 : decode cX0_solve 50 = .ok (.imul, 1) := by decide +kernel
theorem dX0_solve_51 : decode cX0_solve 51 = .ok (.ishl, 1) := by decide +kernel
theorem dX0_solve_52 : decode cX0_solve 52 = .ok (.iconst 1, 1) := by decide +kernel
theorem dX0_solve_53 : decode cX0_solve 53 = .ok (.isub, 1) := by decide +kernel
theorem dX0_solve_54 : decode cX0_solve 54 = .ok (.istore_n 1, 1) := by decide +kernel
theorem dX0_solve_55 : decode cX0_solve 55 = .ok (.aload_n 0, 1) := by decide +kernel
theorem dX0_solve_56 : decode cX0_solve 56 = .ok (.getfield 35, 3) := by decide +kernel
theorem dX0_solve_59 : decode cX0_solve 59 = .ok (.iconst 0, 1) := by decide +kernel
theorem dX0_solve_60 : decode cX0_solve 60 = .ok (.aload_n 0, 1) := by decide +kernel
theorem dX0_solve_61 : decode cX0_solve 61 = .ok (.iload_n 1, 1) := by decide +kernel
theorem dX0_solve_62 : decode cX0_solve 62 = .ok (.invokevirtual 114, 3) := by decide +kernel
theorem dX0_solve_65 : decode cX0_solve 65 = .ok (.iastore, 1) := by decide +kernel
theorem dX0_solve_66 : decode cX0_solve 66 = .ok (.aload_n 0, 1) := by decide +kernel
theorem dX0_solve_67 : decode cX0_solve 67 = .ok (.getfield 35, 3) := by decide +kernel
theorem dX0_solve_70 : decode cX0_solve 70 = .ok (.iconst 0, 1) := by decide +kernel
theorem dX0_solve_71 : decode cX0_solve 71 = .ok (.iaload, 1) := by decide +kernel
theorem dX0_solve_72 : decode cX0_solve 72 = .ok (.ifCond .ge 7, 3) := by decide +kernel
theorem dX0_solve_75 : decode cX0_solve 75 = .ok (.iconst (-1), 1) := by decide +kernel
theorem dX0_solve_76 : decode cX0_solve 76 = .ok (.goto 4, 3) := by decide +kernel
theorem dX0_solve_79 : decode cX0_solve 79 = .ok (.iconst 0, 1) := by decide +kernel
theorem dX0_solve_80 : decode cX0_solve 80 = .ok (.istore_n 2, 1) := by decide +kernel
theorem dX0_solve_81 : decode cX0_solve 81 = .ok (.iconst 1, 1) := by decide +kernel
theorem dX0_solve_82 : decode cX0_solve 82 = .ok (.istore_n 3, 1) := by decide +kernel
theorem dX0_solve_83 : decode cX0_solve 83 = .ok (.iconst 0, 1) := by decide +kernel
theorem dX0_solve_84 : decode cX0_solve 84 = .ok (.istore 4, 2) := by decide +kernel
theorem dX0_solve_86 : decode cX0_solve 86 = .ok (.iload 4, 2) := by decide +kernel
theorem dX0_solve_88 : decode cX0_solve 88 = .ok (.ldc 117, 2) := by decide +kernel
theorem dX0_solve_90 : decode cX0_solve 90 = .ok (.if_icmp .ge 99, 3) := by decide +kernel
theorem dX0_solve_93 : decode cX0_solve 93 = .ok (.iload_n 2, 1) := by decide +kernel
theorem dX0_solve_94 : decode cX0_solve 94 = .ok (.ifCond .lt 95, 3) := by decide +kernel
theorem dX0_solve_97 : decode cX0_solve 97 = .ok (.iload_n 3, 1) := by decide +kernel
theorem dX0_solve_98 : decode cX0_solve 98 = .ok (.ifCond .eq 53, 3) := by decide +kernel
theorem dX0_solve_101 : decode cX0_solve 101 = .ok (.aload_n 0, 1) := by decide +kernel
theorem dX0_solve_102 : decode cX0_solve 102 = .ok (.getfield 38, 3) := by decide +kernel
theorem dX0_solve_105 : decode cX0_solve 105 = .ok (.iload_n 2, 1) := by decide +kernel
theorem dX0_solve_106 : decode cX0_solve 106 = .ok (.aload_n 0, 1) := by decide +kernel
theorem dX0_solve_107 : decode cX0_solve 107 = .ok (.aload_n 0, 1) := by decide +kernel
theorem dX0_solve_108 : decode cX0_solve 108 = .ok (.getfield 35, 3) := by decide +kernel
theorem dX0_solve_111 : decode cX0_solve 111 = .ok (.iload_n 2, 1) := by decide +kernel
theorem dX0_solve_112 : decode cX0_solve 112 = .ok (.iaload, 1) := by decide +kernel
theorem dX0_solve_113 : decode cX0_solve 113 = .ok (.invokevirtual 118, 3) := by decide +kernel
theorem dX0_solve_116 : decode cX0_solve 116 = .ok (.iastore, 1) := by decide +kernel
theorem dX0_solve_117 : decode cX0_solve 117 = .ok (.aload_n 0, 1) := by decide +kernel
theorem dX0_solve_118 : decode cX0_solve 118 = .ok (.getfield 41, 3) := by decide +kernel
theorem dX0_solve_121 : decode cX0_solve 121 = .ok (.iload_n 2, 1) := by decide +kernel
theorem dX0_solve_122 : decode cX0_solve 122 = .ok (.iconst 0, 1) := by decide +kernel
theorem dX0_solve_123 : decode cX0_solve 123 = .ok (.iastore, 1) := by decide +kernel
theorem dX0_solve_124 : decode cX0_solve 124 = .ok (.iconst 0, 1) := by decide +kernel
theorem dX0_solve_125 : decode cX0_solve 125 = .ok (.istore_n 3, 1) := by decide +kernel
theorem dX0_solve_126 : decode cX0_solve 126 = .ok (.aload_n 0, 1) := by decide +kernel
theorem dX0_solve_127 : decode cX0_solve 127 = .ok (.getfield 38, 3) := by decide +kernel
theorem dX0_solve_130 : decode cX0_solve 130 = .ok (.iload_n 2, 1) := by decide +kernel
theorem dX0_solve_131 : decode cX0_solve 131 = .ok (.iaload, 1) := by decide +kernel
theorem dX0_solve_132 : decode cX0_solve 132 = .ok (.ifCond .ge 51, 3) := by decide +kernel
theorem dX0_solve_135 : decode cX0_solve 135 = .ok (.aload_n 0, 1) := by decide +kernel
theorem dX0_solve_136 : decode cX0_solve 136 = .ok (.aload_n 0, 1) := by decide +kernel
theorem dX0_solve_137 : decode cX0_solve 137 = .ok (.getfield 35, 3) := by decide +kernel
theorem dX0_solve_140 : decode cX0_solve 140 = .ok (.iload_n 2, 1) := by decide +kernel
theorem dX0_solve_141 : decode cX0_solve 141 = .ok (.iaload, 1) := by decide +kernel
theorem dX0_solve_142 : decode cX0_solve 142 = .ok (.invokevirtual 121, 3) := by decide +kernel
theorem dX0_solve_145 : decode cX0_solve 145 = .ok (.iinc 2 (-1), 3) := by decide +kernel
theorem dX0_solve_148 : decode cX0_solve 148 = .ok (.goto 35, 3) := by decide +kernel
theorem dX0_solve_151 : decode cX0_solve 151 = .ok (.aload_n 0, 1) := by decide +kernel
theorem dX0_solve_152 : decode cX0_solve 152 = .ok (.iload_n 2, 1) := by decide +kernel
theorem dX0_solve_153 : decode cX0_solve 153 = .ok (.invokevirtual 125, 3) := by decide +kernel
theorem dX0_solve_156 : decode cX0_solve 156 = .ok (.istore_n 3, 1) := by decide +kernel
theorem dX0_solve_157 : decode cX0_solve 157 = .ok (.iload_n 2, 1) := by decide +kernel
theorem dX0_solve_158 : decode cX0_solve 158 = .ok (.iload_n 3, 1) := by decide +kernel
theorem dX0_solve_159 : decode cX0_solve 159 = .ok (.ifCond .eq 7, 3) := by decide +kernel
theorem dX0_solve_162 : decode cX0_solve 162 = .ok (.iconst 1, 1) := by decide +kernel
theorem dX0_solve_163 : decode cX0_solve 163 = .ok (.goto 18, 3) := by decide +kernel
theorem dX0_solve_166 : decode cX0_solve 166 = .ok (.aload_n 0, 1) := by decide +kernel
theorem dX0_solve_167 : decode cX0_solve 167 = .ok (.getfield 41, 3) := by decide +kernel
theorem dX0_solve_170 : decode cX0_solve 170 = .ok (.iload_n 2, 1) := by decide +kernel
theorem dX0_solve_171 : decode cX0_solve 171 = .ok (.iaload, 1) := by decide +kernel
theorem dX0_solve_172 : decode cX0_solve 172 = .ok (.iconst 2, 1) := by decide +kernel
theorem dX0_solve_173 : decode cX0_solve 173 = .ok (.if_icmp .le 7, 3) := by decide +kernel
theorem dX0_solve_176 : decode cX0_solve 176 = .ok (.iconst (-1), 1) := by decide +kernel
theorem dX0_solve_177 : decode cX0_solve 177 = .ok (.goto 4, 3) := by decide +kernel
theorem dX0_solve_180 : decode cX0_solve 180 = .ok (.iconst 0, 1) := by decide +kernel
theorem dX0_solve_181 : decode cX0_solve 181 = .ok (.iadd, 1) := by decide +kernel
theorem dX0_solve_182 : decode cX0_solve 182 = .ok (.istore_n 2, 1) := by decide +kernel
theorem dX0_solve_183 : decode cX0_solve 183 = .ok (.iinc 4 1, 3) := by decide +kernel
theorem dX0_solve_186 : decode cX0_solve 186 = .ok (.goto (-100), 3) := by decide +kernel
theorem dX0_solve_189 : decode cX0_solve 189 = .ok (.return_, 1) := by decide +kernel
abbrev cX0_narrow : ByteArray := prog_1_method_19_code
def yX0_narrow : MethodName := ⟨RX0, "narrow", "(I)I"⟩
theorem dX0_narrow_0 : decode cX0_narrow 0 = .ok (.iload_n 1, 1) := by decide +kernel
theorem dX0_narrow_1 : decode cX0_narrow 1 = .ok (.istore_n 2, 1) := by decide +kernel
theorem dX0_narrow_2 : decode cX0_narrow 2 = .ok (.iconst 1, 1) := by decide +kernel
theorem dX0_narrow_3 : decode cX0_narrow 3 = .ok (.istore_n 3, 1) := by decide +kernel
theorem dX0_narrow_4 : decode cX0_narrow 4 = .ok (.iconst 0, 1) := by decide +kernel
theorem dX0_narrow_5 : decode cX0_narrow 5 = .ok (.istore 4, 2) := by decide +kernel
theorem dX0_narrow_7 : decode cX0_narrow 7 = .ok (.iload 4, 2) := by decide +kernel
theorem dX0_narrow_9 : decode cX0_narrow 9 = .ok (.bipush 30, 2) := by decide +kernel
theorem dX0_narrow_11 : decode cX0_narrow 11 = .ok (.if_icmp .ge 78, 3) := by decide +kernel
theorem dX0_narrow_14 : decode cX0_narrow 14 = .ok (.iload_n 3, 1) := by decide +kernel
theorem dX0_narrow_15 : decode cX0_narrow 15 = .ok (.ifCond .eq 74, 3) := by decide +kernel
theorem dX0_narrow_18 : decode cX0_narrow 18 = .ok (.aload_n 0, 1) := by decide +kernel
theorem dX0_narrow_19 : decode cX0_narrow 19 = .ok (.iload_n 2, 1) := by decide +kernel
theorem dX0_narrow_20 : decode cX0_narrow 20 = .ok (.invokevirtual 86, 3) := by decide +kernel
theorem dX0_narrow_23 : decode cX0_narrow 23 = .ok (.istore 5, 2) := by decide +kernel
theorem dX0_narrow_25 : decode cX0_narrow 25 = .ok (.iload 5, 2) := by decide +kernel
theorem dX0_narrow_27 : decode cX0_narrow 27 = .ok (.ifCond .ge 8, 3) := by decide +kernel
theorem dX0_narrow_30 : decode cX0_narrow 30 = .ok (.iload 5, 2) := by decide +kernel
theorem dX0_narrow_32 : decode cX0_narrow 32 = .ok (.goto 9, 3) := by decide +kernel
theorem dX0_narrow_35 : decode cX0_narrow 35 = .ok (.aload_n 0, 1) := by decide +kernel
theorem dX0_narrow_36 : decode cX0_narrow 36 = .ok (.iload 5, 2) := by decide +kernel
theorem dX0_narrow_38 : decode cX0_narrow 38 = .ok (.invokevirtual 89, 3) := by decide +kernel
theorem dX0_narrow_41 : decode cX0_narrow 41 = .ok (.istore 5, 2) := by decide +kernel
theorem dX0_narrow_43 : decode cX0_narrow 43 = .ok (.iload 5, 2) := by decide +kernel
theorem dX0_narrow_45 : decode cX0_narrow 45 = .ok (.ifCond .ge 8, 3) := by decide +kernel
theorem dX0_narrow_48 : decode cX0_narrow 48 = .ok (.iload 5, 2) := by decide +kernel
theorem dX0_narrow_50 : decode cX0_narrow 50 = .ok (.goto 9, 3) := by decide +kernel
theorem dX0_narrow_53 : decode cX0_narrow 53 = .ok (.aload_n 0, 1) := by decide +kernel
theorem dX0_narrow_54 : decode cX0_narrow 54 = .ok (.iload 5, 2) := by decide +kernel
theorem dX0_narrow_56 : decode cX0_narrow 56 = .ok (.invokevirtual 92, 3) := by decide +kernel
theorem dX0_narrow_59 : decode cX0_narrow 59 = .ok (.istore 5, 2) := by decide +kernel
theorem dX0_narrow_61 : decode cX0_narrow 61 = .ok (.iload 5, 2) := by decide +kernel
theorem dX0_narrow_63 : decode cX0_narrow 63 = .ok (.ifCond .ge 5, 3) := by decide +kernel
theorem dX0_narrow_66 : decode cX0_narrow 66 = .ok (.iconst (-1), 1) := by decide +kernel
theorem dX0_narrow_67 : decode cX0_narrow 67 = .ok (.ireturn, 1) := by decide +kernel
theorem dX0_narrow_68 : decode cX0_narrow 68 = .ok (.iload 5, 2) := by decide +kernel
theorem dX0_narrow_70 : decode cX0_narrow 70 = .ok (.iload_n 2, 1) := by decide +kernel
theorem dX0_narrow_71 : decode cX0_narrow 71 = .ok (.if_icmp .eq 7, 3) := by decide +kernel
theorem dX0_narrow_74 : decode cX0_narrow 74 = .ok (.iconst 1, 1) := by decide +kernel
theorem dX0_narrow_75 : decode cX0_narrow 75 = .ok (.goto 4, 3) := by decide +kernel
theorem dX0_narrow_78 : decode cX0_narrow 78 = .ok (.iconst 0, 1) := by decide +kernel
theorem dX0_narrow_79 : decode cX0_narrow 79 = .ok (.istore_n 3, 1) := by decide +kernel
theorem dX0_narrow_80 : decode cX0_narrow 80 = .ok (.iload 5, 2) := by decide +kernel
theorem dX0_narrow_82 : decode cX0_narrow 82 = .ok (.istore_n 2, 1) := by decide +kernel
theorem dX0_narrow_83 : decode cX0_narrow 83 = .ok (.iinc 4 1, 3) := by decide +kernel
theorem dX0_narrow_86 : decode cX0_narrow 86 = .ok (.goto (-79), 3) := by decide +kernel
theorem dX0_narrow_89 : decode cX0_narrow 89 = .ok (.iload_n 2, 1) := by decide +kernel
theorem dX0_narrow_90 : decode cX0_narrow 90 = .ok (.ireturn, 1) := by decide +kernel
abbrev cX0_narrowIslands : ByteArray := prog_1_method_21_code
def yX0_narrowIslands : MethodName := ⟨RX0, "narrowIslands", "(I)I"⟩
theorem dX0_narrowIslands_0 : decode cX0_narrowIslands 0 = .ok (.iload_n 1, 1) := by decide +kernel
theorem dX0_narrowIslands_1 : decode cX0_narrowIslands 1 = .ok (.istore_n 2, 1) := by decide +kernel
theorem dX0_narrowIslands_2 : decode cX0_narrowIslands 2 = .ok (.iconst 0, 1) := by decide +kernel
theorem dX0_narrowIslands_3 : decode cX0_narrowIslands 3 = .ok (.istore_n 3, 1) := by decide +kernel
theorem dX0_narrowIslands_4 : decode cX0_narrowIslands 4 = .ok (.iload_n 3, 1) := by decide +kernel
theorem dX0_narrowIslands_5 : decode cX0_narrowIslands 5 = .ok (.aload_n 0, 1) := by decide +kernel
theorem dX0_narrowIslands_6 : decode cX0_narrowIslands 6 = .ok (.getfield 79, 3) := by decide +kernel
theorem dX0_narrowIslands_9 : decode cX0_narrowIslands 9 = .ok (.if_icmp .ge 20, 3) := by decide +kernel
theorem dX0_narrowIslands_12 : decode cX0_narrowIslands 12 = .ok (.iload_n 2, 1) := by decide +kernel
theorem dX0_narrowIslands_13 : decode cX0_narrowIslands 13 = .ok (.ifCond .lt 16, 3) := by decide +kernel
theorem dX0_narrowIslands_16 : decode cX0_narrowIslands 16 = .ok (.aload_n 0, 1) := by decide +kernel
theorem dX0_narrowIslands_17 : decode cX0_narrowIslands 17 = .ok (.iload_n 2, 1) := by decide +kernel
theorem dX0_narrowIslands_18 : decode cX0_narrowIslands 18 = .ok (.iload_n 3, 1) := by decide +kernel
theorem dX0_narrowIslands_19 : decode cX0_narrowIslands 19 = .ok (.invokevirtual 95, 3) := by decide +kernel
theorem dX0_narrowIslands_22 : decode cX0_narrowIslands 22 = .ok (.istore_n 2, 1) := by decide +kernel
theorem dX0_narrowIslands_23 : decode cX0_narrowIslands 23 = .ok (.iinc 3 1, 3) := by decide +kernel
theorem dX0_narrowIslands_26 : decode cX0_narrowIslands 26 = .ok (.goto (-22), 3) := by decide +kernel
theorem dX0_narrowIslands_29 : decode cX0_narrowIslands 29 = .ok (.iload_n 2, 1) := by decide +kernel
theorem dX0_narrowIslands_30 : decode cX0_narrowIslands 30 = .ok (.ireturn, 1) := by decide +kernel
abbrev cX0_narrowIsland : ByteArray := prog_1_method_22_code
def yX0_narrowIsland : MethodName := ⟨RX0, "narrowIsland", "(II)I"⟩
theorem dX0_narrowIsland_0 : decode cX0_narrowIsland 0 = .ok (.iconst 0, 1) := by decide +kernel
theorem dX0_narrowIsland_1 : decode cX0_narrowIsland 1 = .ok (.istore_n 3, 1) := by decide +kernel
theorem dX0_narrowIsland_2 : decode cX0_narrowIsland 2 = .ok (.iconst 0, 1) := by decide +kernel
theorem dX0_narrowIsland_3 : decode cX0_narrowIsland 3 = .ok (.istore 4, 2) := by decide +kernel
theorem dX0_narrowIsland_5 : decode cX0_narrowIsland 5 = .ok (.iconst 0, 1) := by decide +kernel
theorem dX0_narrowIsland_6 : decode cX0_narrowIsland 6 = .ok (.istore 5, 2) := by decide +kernel
theorem dX0_narrowIsland_8 : decode cX0_narrowIsland 8 = .ok (.iload 5, 2) := by decide +kernel
theorem dX0_narrowIsland_10 : decode cX0_narrowIsland 10 = .ok (.aload_n 0, 1) := by decide +kernel
theorem dX0_narrowIsland_11 : decode cX0_narrowIsland 11 = .ok (.getfield 55, 3) := by decide +kernel
theorem dX0_narrowIsland_14 : decode cX0_narrowIsland 14 = .ok (.if_icmp .ge 45, 3) := by decide +kernel
theorem dX0_narrowIsland_17 : decode cX0_narrowIsland 17 = .ok (.aload_n 0, 1) := by decide +kernel
theorem dX0_narrowIsland_18 : decode cX0_narrowIsland 18 = .ok (.iload 5, 2) := by decide +kernel
theorem dX0_narrowIsland_20 : decode cX0_narrowIsland 20 = .ok (.iload_n 2, 1) := by decide +kernel
theorem dX0_narrowIsland_21 : decode cX0_narrowIsland 21 = .ok (.invokevirtual 98, 3) := by decide +kernel
theorem dX0_narrowIsland_24 : decode cX0_narrowIsland 24 = .ok (.ifCond .eq 29, 3) := by decide +kernel
theorem dX0_narrowIsland_27 : decode cX0_narrowIsland 27 = .ok (.iload_n 1, 1) := by decide +kernel
theorem dX0_narrowIsland_28 : decode cX0_narrowIsland 28 = .ok (.iload 5, 2) := by decide +kernel
theorem dX0_narrowIsland_30 : decode cX0_narrowIsland 30 = .ok (.invokestatic 67, 3) := by decide +kernel
theorem dX0_narrowIsland_33 : decode cX0_narrowIsland 33 = .ok (.istore 6, 2) := by decide +kernel
theorem dX0_narrowIsland_35 : decode cX0_narrowIsland 35 = .ok (.iload_n 3, 1) := by decide +kernel
theorem dX0_narrowIsland_36 : decode cX0_narrowIsland 36 = .ok (.iload 6, 2) := by decide +kernel
theorem dX0_narrowIsland_38 : decode cX0_narrowIsland 38 = .ok (.invokestatic 71, 3) := by decide +kernel
theorem dX0_narrowIsland_41 : decode cX0_narrowIsland 41 = .ok (.iadd, 1) := by decide +kernel
theorem dX0_narrowIsland_42 : decode cX0_narrowIsland 42 = .ok (.istore_n 3, 1) := by decide +kernel
theorem dX0_narrowIsland_43 : decode cX0_narrowIsland 43 = .ok (.iload 4, 2) := by decide +kernel
theorem dX0_narrowIsland_45 : decode cX0_narrowIsland 45 = .ok (.iload 6, 2) := by decide +kernel
theorem dX0_narrowIsland_47 : decode cX0_narrowIsland 47 = .ok (.invokestatic 101, 3) := by decide +kernel
theorem dX0_narrowIsland_50 : decode cX0_narrowIsland 50 = .ok (.iadd, 1) := by decide +kernel
theorem dX0_narrowIsland_51 : decode cX0_narrowIsland 51 = .ok (.istore 4, 2) := by decide +kernel
theorem dX0_narrowIsland_53 : decode cX0_narrowIsland 53 = .ok (.iinc 5 1, 3) := by decide +kernel
theorem dX0_narrowIsland_56 : decode cX0_narrowIsland 56 = .ok (.goto (-48), 3) := by decide +kernel
theorem dX0_narrowIsland_59 : decode cX0_narrowIsland 59 = .ok (.aload_n 0, 1) := by decide +kernel
theorem dX0_narrowIsland_60 : decode cX0_narrowIsland 60 = .ok (.getfield 7, 3) := by decide +kernel
theorem dX0_narrowIsland_63 : decode cX0_narrowIsland 63 = .ok (.aload_n 0, 1) := by decide +kernel
theorem dX0_narrowIsland_64 : decode cX0_narrowIsland 64 = .ok (.getfield 13, 3) := by decide +kernel
theorem dX0_narrowIsland_67 : decode cX0_narrowIsland 67 = .ok (.iload_n 2, 1) := by decide +kernel
theorem dX0_narrowIsland_68 : decode cX0_narrowIsland 68 = .ok (.iaload, 1) := by decide +kernel
theorem dX0_narrowIsland_69 : decode cX0_narrowIsland 69 = .ok (.iaload, 1) := by decide +kernel
theorem dX0_narrowIsland_70 : decode cX0_narrowIsland 70 = .ok (.istore 5, 2) := by decide +kernel
theorem dX0_narrowIsland_72 : decode cX0_narrowIsland 72 = .ok (.iload 5, 2) := by decide +kernel
theorem dX0_narrowIsland_74 : decode cX0_narrowIsland 74 = .ok (.iload_n 3, 1) := by decide +kernel
theorem dX0_narrowIsland_75 : decode cX0_narrowIsland 75 = .ok (.if_icmp .lt 10, 3) := by decide +kernel
theorem dX0_narrowIsland_78 : decode cX0_narrowIsland 78 = .ok (.iload 5, 2) := by decide +kernel
theorem dX0_narrowIsland_80 : decode cX0_narrowIsland 80 = .ok (.iload 4, 2) := by decide +kernel
theorem dX0_narrowIsland_82 : decode cX0_narrowIsland 82 = .ok (.if_icmp .le 5, 3) := by decide +kernel
theorem dX0_narrowIsland_85 : decode cX0_narrowIsland 85 = .ok (.iconst (-1), 1) := by decide +kernel
theorem dX0_narrowIsland_86 : decode cX0_narrowIsland 86 = .ok (.ireturn, 1) := by decide +kernel
theorem dX0_narrowIsland_87 : decode cX0_narrowIsland 87 = .ok (.iload_n 1, 1) := by decide +kernel
theorem dX0_narrowIsland_88 : decode cX0_narrowIsland 88 = .ok (.istore 6, 2) := by decide +kernel
theorem dX0_narrowIsland_90 : decode cX0_narrowIsland 90 = .ok (.iconst 0, 1) := by decide +kernel
theorem dX0_narrowIsland_91 : decode cX0_narrowIsland 91 = .ok (.istore 7, 2) := by decide +kernel
theorem dX0_narrowIsland_93 : decode cX0_narrowIsland 93 = .ok (.iload 7, 2) := by decide +kernel
theorem dX0_narrowIsland_95 : decode cX0_narrowIsland 95 = .ok (.aload_n 0, 1) := by decide +kernel
theorem dX0_narrowIsland_96 : decode cX0_narrowIsland 96 = .ok (.getfield 55, 3) := by decide +kernel
theorem dX0_narrowIsland_99 : decode cX0_narrowIsland 99 = .ok (.if_icmp .ge 84, 3) := by decide +kernel
theorem dX0_narrowIsland_102 : decode cX0_narrowIsland 102 = .ok (.aload_n 0, 1) := by decide +kernel
theorem dX0_narrowIsland_103 : decode cX0_narrowIsland 103 = .ok (.iload 7, 2) := by decide +kernel
theorem dX0_narrowIsland_105 : decode cX0_narrowIsland 105 = .ok (.iload_n 2, 1) := by decide +kernel
theorem dX0_narrowIsland_106 : decode cX0_narrowIsland 106 = .ok (.invokevirtual 98, 3) := by decide +kernel
theorem dX0_narrowIsland_109 : decode cX0_narrowIsland 109 = .ok (.ifCond .eq 68, 3) := by decide +kernel
theorem dX0_narrowIsland_112 : decode cX0_narrowIsland 112 = .ok (.iload_n 1, 1) := by decide +kernel
theorem dX0_narrowIsland_113 : decode cX0_narrowIsland 113 = .ok (.iload 7, 2) := by decide +kernel
theorem dX0_narrowIsland_115 : decode cX0_narrowIsland 115 = .ok (.invokestatic 67, 3) := by decide +kernel
theorem dX0_narrowIsland_118 : decode cX0_narrowIsland 118 = .ok (.istore 8, 2) := by decide +kernel
theorem dX0_narrowIsland_120 : decode cX0_narrowIsland 120 = .ok (.iload 5, 2) := by decide +kernel
theorem dX0_narrowIsland_122 : decode cX0_narrowIsland 122 = .ok (.iload_n 3, 1) := by decide +kernel
theorem dX0_narrowIsland_123 : decode cX0_narrowIsland 123 = .ok (.isub, 1) := by decide +kernel
theorem dX0_narrowIsland_124 : decode cX0_narrowIsland 124 = .ok (.iload 8, 2) := by decide +kernel
theorem dX0_narrowIsland_126 : decode cX0_narrowIsland 126 = .ok (.invokestatic 71, 3) := by decide +kernel
theorem dX0_narrowIsland_129 : decode cX0_narrowIsland 129 = .ok (.iadd, 1) := by decide +kernel
theorem dX0_narrowIsland_130 : decode cX0_narrowIsland 130 = .ok (.istore 9, 2) := by decide +kernel
theorem dX0_narrowIsland_132 : decode cX0_narrowIsland 132 = .ok (.iload 5, 2) := by decide +kernel
theorem dX0_narrowIsland_134 : decode cX0_narrowIsland 134 = .ok (.iload 4, 2) := by decide +kernel
theorem dX0_narrowIsland_136 : decode cX0_narrowIsland 136 = .ok (.isub, 1) := by decide +kernel
theorem dX0_narrowIsland_137 : decode cX0_narrowIsland 137 = .ok (.iload 8, 2) := by decide +kernel
theorem dX0_narrowIsland_139 : decode cX0_narrowIsland 139 = .ok (.invokestatic 101, 3) := by decide +kernel
theorem dX0_narrowIsland_142 : decode cX0_narrowIsland 142 = .ok (.iadd, 1) := by decide +kernel
theorem dX0_narrowIsland_143 : decode cX0_narrowIsland 143 = .ok (.istore 10, 2) := by decide +kernel
theorem dX0_narrowIsland_145 : decode cX0_narrowIsland 145 = .ok (.iload 10, 2) := by decide +kernel
theorem dX0_narrowIsland_147 : decode cX0_narrowIsland 147 = .ok (.iload 9, 2) := by decide +kernel
theorem dX0_narrowIsland_149 : decode cX0_narrowIsland 149 = .ok (.invokestatic 104, 3) := by decide +kernel
theorem dX0_narrowIsland_152 : decode cX0_narrowIsland 152 = .ok (.istore 11, 2) := by decide +kernel
theorem dX0_narrowIsland_154 : decode cX0_narrowIsland 154 = .ok (.iload 6, 2) := by decide +kernel
theorem dX0_narrowIsland_156 : decode cX0_narrowIsland 156 = .ok (.iload 7, 2) := by decide +kernel
theorem dX0_narrowIsland_158 : decode cX0_narrowIsland 158 = .ok (.iload 11, 2) := by decide +kernel
theorem dX0_narrowIsland_160 : decode cX0_narrowIsland 160 = .ok (.invokestatic 107, 3) := by decide +kernel
theorem dX0_narrowIsland_163 : decode cX0_narrowIsland 163 = .ok (.istore 6, 2) := by decide +kernel
theorem dX0_narrowIsland_165 : decode cX0_narrowIsland 165 = .ok (.iload 6, 2) := by decide +kernel
theorem dX0_narrowIsland_167 : decode cX0_narrowIsland 167 = .ok (.iload 7, 2) := by decide +kernel
theorem dX0_narrowIsland_169 : decode cX0_narrowIsland 169 = .ok (.invokestatic 67, 3) := by decide +kernel
theorem dX0_narrowIsland_172 : decode cX0_narrowIsland 172 = .ok (.ifCond .ne 5, 3) := by decide +kernel
theorem dX0_narrowIsland_175 : decode cX0_narrowIsland 175 = .ok (.iconst (-1), 1) := by decide +kernel
theorem dX0_narrowIsland_176 : decode cX0_narrowIsland 176 = .ok (.ireturn, 1) := by decide +kernel
theorem dX0_narrowIsland_177 : decode cX0_narrowIsland 177 = .ok (.iinc 7 1, 3) := by decide +kernel
theorem dX0_narrowIsland_180 : decode cX0_narrowIsland 180 = .ok (.goto (-87), 3) := by decide +kernel
theorem dX0_narrowIsland_183 : decode cX0_narrowIsland 183 = .ok (.iload 6, 2) := by decide +kernel
theorem dX0_narrowIsland_185 : decode cX0_narrowIsland 185 = .ok (.ireturn, 1) := by decide +kernel
abbrev cX0_touches : ByteArray := prog_1_method_20_code
def yX0_touches : MethodName := ⟨RX0, "touches", "(II)Z"⟩
theorem dX0_touches_0 : decode cX0_touches 0 = .ok (.aload_n 0, 1) := by decide +kernel
theorem dX0_touches_1 : decode cX0_touches 1 = .ok (.getfield 19, 3) := by decide +kernel
theorem dX0_touches_4 : decode cX0_touches 4 = .ok (.iload_n 1, 1) := by decide +kernel
theorem dX0_touches_5 : decode cX0_touches 5 = .ok (.iaload, 1) := by decide +kernel
theorem dX0_touches_6 : decode cX0_touches 6 = .ok (.iload_n 2, 1) := by decide +kernel
theorem dX0_touches_7 : decode cX0_touches 7 = .ok (.if_icmp .eq 13, 3) := by decide +kernel
theorem dX0_touches_10 : decode cX0_touches 10 = .ok (.aload_n 0, 1) := by decide +kernel
theorem dX0_touches_11 : decode cX0_touches 11 = .ok (.getfield 22, 3) := by decide +kernel
theorem dX0_touches_14 : decode cX0_touches 14 = .ok (.iload_n 1, 1) := by decide +kernel
theorem dX0_touches_15 : decode cX0_touches 15 = .ok (.iaload, 1) := by decide +kernel
theorem dX0_touches_16 : decode cX0_touches 16 = .ok (.iload_n 2, 1) := by decide +kernel
theorem dX0_touches_17 : decode cX0_touches 17 = .ok (.if_icmp .ne 7, 3) := by decide +kernel
theorem dX0_touches_20 : decode cX0_touches 20 = .ok (.iconst 1, 1) := by decide +kernel
theorem dX0_touches_21 : decode cX0_touches 21 = .ok (.goto 4, 3) := by decide +kernel
theorem dX0_touches_24 : decode cX0_touches 24 = .ok (.iconst 0, 1) := by decide +kernel
theorem dX0_touches_25 : decode cX0_touches 25 = .ok (.ireturn, 1) := by decide +kernel
abbrev cX0_domainOf : ByteArray := prog_1_method_14_code
def yX0_domainOf : MethodName := ⟨RX0, "domainOf", "(II)I"⟩
theorem dX0_domainOf_0 : decode cX0_domainOf 0 = .ok (.iload_n 0, 1) := by decide +kernel
theorem dX0_domainOf_1 : decode cX0_domainOf 1 = .ok (.iconst 3, 1) := by decide +kernel
theorem dX0_domainOf_2 : decode cX0_domainOf 2 = .ok (.iload_n 1, 1) := by decide +kernel
theorem dX0_domainOf_3 : decode cX0_domainOf 3 = .ok (.imul, 1) := by decide +kernel
theorem dX0_domainOf_4 : decode cX0_domainOf 4 = .ok (.iushr, 1) := by decide +kernel
theorem dX0_domainOf_5 : decode cX0_domainOf 5 = .ok (.bipush 7, 2) := by decide +kernel
theorem dX0_domainOf_7 : decode cX0_domainOf 7 = .ok (.iand, 1) := by decide +kernel
theorem dX0_domainOf_8 : decode cX0_domainOf 8 = .ok (.ireturn, 1) := by decide +kernel
abbrev cX0_lowest : ByteArray := prog_1_method_15_code
def yX0_lowest : MethodName := ⟨RX0, "lowest", "(I)I"⟩
theorem dX0_lowest_0 : decode cX0_lowest 0 = .ok (.iload_n 0, 1) := by decide +kernel
theorem dX0_lowest_1 : decode cX0_lowest 1 = .ok (.iconst 1, 1) := by decide +kernel
theorem dX0_lowest_2 : decode cX0_lowest 2 = .ok (.iand, 1) := by decide +kernel
theorem dX0_lowest_3 : decode cX0_lowest 3 = .ok (.ifCond .eq 7, 3) := by decide +kernel
theorem dX0_lowest_6 : decode cX0_lowest 6 = .ok (.iconst 0, 1) := by decide +kernel
theorem dX0_lowest_7 : decode cX0_lowest 7 = .ok (.goto 14, 3) := by decide +kernel
theorem dX0_lowest_10 : decode cX0_lowest 10 = .ok (.iload_n 0, 1) := by decide +kernel
theorem dX0_lowest_11 : decode cX0_lowest 11 = .ok (.iconst 2, 1) := by decide +kernel
theorem dX0_lowest_12 : decode cX0_lowest 12 = .ok (.iand, 1) := by decide +kernel
theorem dX0_lowest_13 : decode cX0_lowest 13 = .ok (.ifCond .eq 7, 3) := by decide +kernel
theorem dX0_lowest_16 : decode cX0_lowest 16 = .ok (.iconst 1, 1) := by decide +kernel
theorem dX0_lowest_17 : decode cX0_lowest 17 = .ok (.goto 4, 3) := by decide +kernel
theorem dX0_lowest_20 : decode cX0_lowest 20 = .ok (.iconst 2, 1) := by decide +kernel
theorem dX0_lowest_21 : decode cX0_lowest 21 = .ok (.ireturn, 1) := by decide +kernel
abbrev cX0_highest : ByteArray := prog_1_method_16_code
def yX0_highest : MethodName := ⟨RX0, "highest", "(I)I"⟩
theorem dX0_highest_0 : decode cX0_highest 0 = .ok (.iload_n 0, 1) := by decide +kernel
theorem dX0_highest_1 : decode cX0_highest 1 = .ok (.iconst 4, 1) := by decide +kernel
theorem dX0_highest_2 : decode cX0_highest 2 = .ok (.iand, 1) := by decide +kernel
theorem dX0_highest_3 : decode cX0_highest 3 = .ok (.ifCond .eq 7, 3) := by decide +kernel
theorem dX0_highest_6 : decode cX0_highest 6 = .ok (.iconst 2, 1) := by decide +kernel
theorem dX0_highest_7 : decode cX0_highest 7 = .ok (.goto 14, 3) := by decide +kernel
theorem dX0_highest_10 : decode cX0_highest 10 = .ok (.iload_n 0, 1) := by decide +kernel
theorem dX0_highest_11 : decode cX0_highest 11 = .ok (.iconst 2, 1) := by decide +kernel
theorem dX0_highest_12 : decode cX0_highest 12 = .ok (.iand, 1) := by decide +kernel
theorem dX0_highest_13 : decode cX0_highest 13 = .ok (.ifCond .eq 7, 3) := by decide +kernel
theorem dX0_highest_16 : decode cX0_highest 16 = .ok (.iconst 1, 1) := by decide +kernel
theorem dX0_highest_17 : decode cX0_highest 17 = .ok (.goto 4, 3) := by decide +kernel
theorem dX0_highest_20 : decode cX0_highest 20 = .ok (.iconst 0, 1) := by decide +kernel
theorem dX0_highest_21 : decode cX0_highest 21 = .ok (.ireturn, 1) := by decide +kernel
abbrev cX0_setFrom : ByteArray := prog_1_method_18_code
def yX0_setFrom : MethodName := ⟨RX0, "setFrom", "(II)I"⟩
theorem dX0_setFrom_0 : decode cX0_setFrom 0 = .ok (.iconst 0, 1) := by decide +kernel
theorem dX0_setFrom_1 : decode cX0_setFrom 1 = .ok (.istore_n 2, 1) := by decide +kernel
theorem dX0_setFrom_2 : decode cX0_setFrom 2 = .ok (.iconst 0, 1) := by decide +kernel
theorem dX0_setFrom_3 : decode cX0_setFrom 3 = .ok (.istore_n 3, 1) := by decide +kernel
theorem dX0_setFrom_4 : decode cX0_setFrom 4 = .ok (.iload_n 3, 1) := by decide +kernel
theorem dX0_setFrom_5 : decode cX0_setFrom 5 = .ok (.iconst 3, 1) := by decide +kernel
theorem dX0_setFrom_6 : decode cX0_setFrom 6 = .ok (.if_icmp .ge 25, 3) := by decide +kernel
theorem dX0_setFrom_9 : decode cX0_setFrom 9 = .ok (.iload_n 3, 1) := by decide +kernel
theorem dX0_setFrom_10 : decode cX0_setFrom 10 = .ok (.iload_n 0, 1) := by decide +kernel
theorem dX0_setFrom_11 : decode cX0_setFrom 11 = .ok (.if_icmp .lt 14, 3) := by decide +kernel
theorem dX0_setFrom_14 : decode cX0_setFrom 14 = .ok (.iload_n 3, 1) := by decide +kernel
theorem dX0_setFrom_15 : decode cX0_setFrom 15 = .ok (.iload_n 1, 1) := by decide +kernel
theorem dX0_setFrom_16 : decode cX0_setFrom 16 = .ok (.if_icmp .gt 9, 3) := by decide +kernel
theorem dX0_setFrom_19 : decode cX0_setFrom 19 = .ok (.iload_n 2, 1) := by decide +kernel
theorem dX0_setFrom_20 : decode cX0_setFrom 20 = .ok (.iconst 1, 1) := by decide +kernel
theorem dX0_setFrom_21 : decode cX0_setFrom 21 = .ok (.iload_n 3, 1) := by decide +kernel
theorem dX0_setFrom_22 : decode cX0_setFrom 22 = .ok (.ishl, 1) := by decide +kernel
theorem dX0_setFrom_23 : decode cX0_setFrom 23 = .ok (.ior, 1) := by decide +kernel
theorem dX0_setFrom_24 : decode cX0_setFrom 24 = .ok (.istore_n 2, 1) := by decide +kernel
theorem dX0_setFrom_25 : decode cX0_setFrom 25 = .ok (.iinc 3 1, 3) := by decide +kernel
theorem dX0_setFrom_28 : decode cX0_setFrom 28 = .ok (.goto (-24), 3) := by decide +kernel
theorem dX0_setFrom_31 : decode cX0_setFrom 31 = .ok (.iload_n 2, 1) := by decide +kernel
theorem dX0_setFrom_32 : decode cX0_setFrom 32 = .ok (.ireturn, 1) := by decide +kernel
abbrev cX0_restrict : ByteArray := prog_1_method_17_code
def yX0_restrict : MethodName := ⟨RX0, "restrict", "(III)I"⟩
theorem dX0_restrict_0 : decode cX0_restrict 0 = .ok (.iload_n 0, 1) := by decide +kernel
theorem dX0_restrict_1 : decode cX0_restrict 1 = .ok (.bipush 7, 2) := by decide +kernel
theorem dX0_restrict_3 : decode cX0_restrict 3 = .ok (.iconst 3, 1) := by decide +kernel
theorem dX0_restrict_4 : decode cX0_restrict 4 = .ok (.iload_n 1, 1) := by decide +kernel
theorem dX0_restrict_5 : decode cX0_restrict 5 = .ok (.imul, 1) := by decide +kernel
theorem dX0_restrict_6 : decode cX0_restrict 6 = .ok (.ishl, 1) := by decide +kernel
theorem dX0_restrict_7 : decode cX0_restrict 7 = .ok (.iconst (-1), 1) := by decide +kernel
theorem dX0_restrict_8 : decode cX0_restrict 8 = .ok (.ixor, 1) := by decide +kernel
theorem dX0_restrict_9 : decode cX0_restrict 9 = .ok (.iand, 1) := by decide +kernel
theorem dX0_restrict_10 : decode cX0_restrict 10 = .ok (.iload_n 0, 1) := by decide +kernel
theorem dX0_restrict_11 : decode cX0_restrict 11 = .ok (.iconst 3, 1) := by decide +kernel
theorem dX0_restrict_12 : decode cX0_restrict 12 = .ok (.iload_n 1, 1) := by decide +kernel
theorem dX0_restrict_13 : decode cX0_restrict 13 = .ok (.imul, 1) := by decide +kernel
theorem dX0_restrict_14 : decode cX0_restrict 14 = .ok (.iushr, 1) := by decide +kernel
theorem dX0_restrict_15 : decode cX0_restrict 15 = .ok (.iload_n 2, 1) := by decide +kernel
theorem dX0_restrict_16 : decode cX0_restrict 16 = .ok (.iand, 1) := by decide +kernel
theorem dX0_restrict_17 : decode cX0_restrict 17 = .ok (.bipush 7, 2) := by decide +kernel
theorem dX0_restrict_19 : decode cX0_restrict 19 = .ok (.iand, 1) := by decide +kernel
theorem dX0_restrict_20 : decode cX0_restrict 20 = .ok (.iconst 3, 1) := by decide +kernel
theorem dX0_restrict_21 : decode cX0_restrict 21 = .ok (.iload_n 1, 1) := by decide +kernel
theorem dX0_restrict_22 : decode cX0_restrict 22 = .ok (.imul, 1) := by decide +kernel
theorem dX0_restrict_23 : decode cX0_restrict 23 = .ok (.ishl, 1) := by decide +kernel
theorem dX0_restrict_24 : decode cX0_restrict 24 = .ok (.ior, 1) := by decide +kernel
theorem dX0_restrict_25 : decode cX0_restrict 25 = .ok (.ireturn, 1) := by decide +kernel
abbrev cX0_narrowCrossings : ByteArray := prog_1_method_23_code
def yX0_narrowCrossings : MethodName := ⟨RX0, "narrowCrossings", "(I)I"⟩
theorem dX0_narrowCrossings_0 : decode cX0_narrowCrossings 0 = .ok (.iload_n 1, 1) := by decide +kernel
theorem dX0_narrowCrossings_1 : decode cX0_narrowCrossings 1 = .ok (.istore_n 2, 1) := by decide +kernel
theorem dX0_narrowCrossings_2 : decode cX0_narrowCrossings 2 = .ok (.iconst 0, 1) := by decide +kernel
theorem dX0_narrowCrossings_3 : decode cX0_narrowCrossings 3 = .ok (.istore_n 3, 1) := by decide +kernel
theorem dX0_narrowCrossings_4 : decode cX0_narrowCrossings 4 = .ok (.iload_n 3, 1) := by decide +kernel
theorem dX0_narrowCrossings_5 : decode cX0_narrowCrossings 5 = .ok (.aload_n 0, 1) := by decide +kernel
theorem dX0_narrowCrossings_6 : decode cX0_narrowCrossings 6 = .ok (.getfield 55, 3) := by decide +kernel
theorem dX0_narrowCrossings_9 : decode cX0_narrowCrossings 9 = .ok (.if_icmp .ge 70, 3) := by decide +kernel
theorem dX0_narrowCrossings_12 : decode cX0_narrowCrossings 12 = .ok (.iload_n 2, 1) := by decide +kernel
theorem dX0_narrowCrossings_13 : decode cX0_narrowCrossings 13 = .ok (.iload_n 3, 1) := by decide +kernel
theorem dX0_narrowCrossings_14 : decode cX0_narrowCrossings 14 = .ok (.invokestatic 67, 3) := by decide +kernel
theorem dX0_narrowCrossings_17 : decode cX0_narrowCrossings 17 = .ok (.iconst 1, 1) := by decide +kernel
theorem dX0_narrowCrossings_18 : decode cX0_narrowCrossings 18 = .ok (.iand, 1) := by decide +kernel
theorem dX0_narrowCrossings_19 : decode cX0_narrowCrossings 19 = .ok (.ifCond .ne 54, 3) := by decide +kernel
theorem dX0_narrowCrossings_22 : decode cX0_narrowCrossings 22 = .ok (.iconst 0, 1) := by decide +kernel
theorem dX0_narrowCrossings_23 : decode cX0_narrowCrossings 23 = .ok (.istore 4, 2) := by decide +kernel
theorem dX0_narrowCrossings_25 : decode cX0_narrowCrossings 25 = .ok (.iload 4, 2) := by decide +kernel
theorem dX0_narrowCrossings_27 : decode cX0_narrowCrossings 27 = .ok (.aload_n 0, 1) := by decide +kernel
theorem dX0_narrowCrossings_28 : decode cX0_narrowCrossings 28 = .ok (.getfield 55, 3) := by decide +kernel
theorem dX0_narrowCrossings_31 : decode cX0_narrowCrossings 31 = .ok (.if_icmp .ge 42, 3) := by decide +kernel
theorem dX0_narrowCrossings_34 : decode cX0_narrowCrossings 34 = .ok (.aload_n 0, 1) := by decide +kernel
theorem dX0_narrowCrossings_35 : decode cX0_narrowCrossings 35 = .ok (.getfield 29, 3) := by decide +kernel
theorem dX0_narrowCrossings_38 : decode cX0_narrowCrossings 38 = .ok (.iload_n 3, 1) := by decide +kernel
theorem dX0_narrowCrossings_39 : decode cX0_narrowCrossings 39 = .ok (.iaload, 1) := by decide +kernel
theorem dX0_narrowCrossings_40 : decode cX0_narrowCrossings 40 = .ok (.iload 4, 2) := by decide +kernel
theorem dX0_narrowCrossings_42 : decode cX0_narrowCrossings 42 = .ok (.iushr, 1) := by decide +kernel
theorem dX0_narrowCrossings_43 : decode cX0_narrowCrossings 43 = .ok (.iconst 1, 1) := by decide +kernel
theorem dX0_narrowCrossings_44 : decode cX0_narrowCrossings 44 = .ok (.iand, 1) := by decide +kernel
theorem dX0_narrowCrossings_45 : decode cX0_narrowCrossings 45 = .ok (.ifCond .eq 22, 3) := by decide +kernel
theorem dX0_narrowCrossings_48 : decode cX0_narrowCrossings 48 = .ok (.iload_n 2, 1) := by decide +kernel
theorem dX0_narrowCrossings_49 : decode cX0_narrowCrossings 49 = .ok (.iload 4, 2) := by decide +kernel
theorem dX0_narrowCrossings_51 : decode cX0_narrowCrossings 51 = .ok (.iconst 1, 1) := by decide +kernel
theorem dX0_narrowCrossings_52 : decode cX0_narrowCrossings 52 = .ok (.invokestatic 107, 3) := by decide +kernel
theorem dX0_narrowCrossings_55 : decode cX0_narrowCrossings 55 = .ok (.istore_n 2, 1) := by decide +kernel
theorem dX0_narrowCrossings_56 : decode cX0_narrowCrossings 56 = .ok (.iload_n 2, 1) := by decide +kernel
theorem dX0_narrowCrossings_57 : decode cX0_narrowCrossings 57 = .ok (.iload 4, 2) := by decide +kernel
theorem dX0_narrowCrossings_59 : decode cX0_narrowCrossings 59 = .ok (.invokestatic 67, 3) := by decide +kernel
theorem dX0_narrowCrossings_62 : decode cX0_narrowCrossings 62 = .ok (.ifCond .ne 5, 3) := by decide +kernel
theorem dX0_narrowCrossings_65 : decode cX0_narrowCrossings 65 = .ok (.iconst (-1), 1) := by decide +kernel
theorem dX0_narrowCrossings_66 : decode cX0_narrowCrossings 66 = .ok (.ireturn, 1) := by decide +kernel
theorem dX0_narrowCrossings_67 : decode cX0_narrowCrossings 67 = .ok (.iinc 4 1, 3) := by decide +kernel
theorem dX0_narrowCrossings_70 : decode cX0_narrowCrossings 70 = .ok (.goto (-45), 3) := by decide +kernel
theorem dX0_narrowCrossings_73 : decode cX0_narrowCrossings 73 = .ok (.iinc 3 1, 3) := by decide +kernel
theorem dX0_narrowCrossings_76 : decode cX0_narrowCrossings 76 = .ok (.goto (-72), 3) := by decide +kernel
theorem dX0_narrowCrossings_79 : decode cX0_narrowCrossings 79 = .ok (.iload_n 2, 1) := by decide +kernel
theorem dX0_narrowCrossings_80 : decode cX0_narrowCrossings 80 = .ok (.ireturn, 1) := by decide +kernel
abbrev cX0_narrowCuts : ByteArray := prog_1_method_24_code
def yX0_narrowCuts : MethodName := ⟨RX0, "narrowCuts", "(I)I"⟩
theorem dX0_narrowCuts_0 : decode cX0_narrowCuts 0 = .ok (.aload_n 0, 1) := by decide +kernel
theorem dX0_narrowCuts_1 : decode cX0_narrowCuts 1 = .ok (.iload_n 1, 1) := by decide +kernel
theorem dX0_narrowCuts_2 : decode cX0_narrowCuts 2 = .ok (.iconst (-1), 1) := by decide +kernel
theorem dX0_narrowCuts_3 : decode cX0_narrowCuts 3 = .ok (.invokevirtual 111, 3) := by decide +kernel
theorem dX0_narrowCuts_6 : decode cX0_narrowCuts 6 = .ok (.ifCond .ne 5, 3) := by decide +kernel
theorem dX0_narrowCuts_9 : decode cX0_narrowCuts 9 = .ok (.iconst (-1), 1) := by decide +kernel
theorem dX0_narrowCuts_10 : decode cX0_narrowCuts 10 = .ok (.ireturn, 1) := by decide +kernel
theorem dX0_narrowCuts_11 : decode cX0_narrowCuts 11 = .ok (.iload_n 1, 1) := by decide +kernel
theorem dX0_narrowCuts_12 : decode cX0_narrowCuts 12 = .ok (.istore_n 2, 1) := by decide +kernel
theorem dX0_narrowCuts_13 : decode cX0_narrowCuts 13 = .ok (.iconst 0, 1) := by decide +kernel
theorem dX0_narrowCuts_14 : decode cX0_narrowCuts 14 = .ok (.istore_n 3, 1) := by decide +kernel
theorem dX0_narrowCuts_15 : decode cX0_narrowCuts 15 = .ok (.iload_n 3, 1) := by decide +kernel
theorem dX0_narrowCuts_16 : decode cX0_narrowCuts 16 = .ok (.aload_n 0, 1) := by decide +kernel
theorem dX0_narrowCuts_17 : decode cX0_narrowCuts 17 = .ok (.getfield 55, 3) := by decide +kernel
theorem dX0_narrowCuts_20 : decode cX0_narrowCuts 20 = .ok (.if_icmp .ge 50, 3) := by decide +kernel
theorem dX0_narrowCuts_23 : decode cX0_narrowCuts 23 = .ok (.iload_n 2, 1) := by decide +kernel
theorem dX0_narrowCuts_24 : decode cX0_narrowCuts 24 = .ok (.iload_n 3, 1) := by decide +kernel
theorem dX0_narrowCuts_25 : decode cX0_narrowCuts 25 = .ok (.invokestatic 67, 3) := by decide +kernel
theorem dX0_narrowCuts_28 : decode cX0_narrowCuts 28 = .ok (.istore 4, 2) := by decide +kernel
theorem dX0_narrowCuts_30 : decode cX0_narrowCuts 30 = .ok (.iload 4, 2) := by decide +kernel
theorem dX0_narrowCuts_32 : decode cX0_narrowCuts 32 = .ok (.iconst 1, 1) := by decide +kernel
theorem dX0_narrowCuts_33 : decode cX0_narrowCuts 33 = .ok (.iand, 1) := by decide +kernel
theorem dX0_narrowCuts_34 : decode cX0_narrowCuts 34 = .ok (.ifCond .eq 30, 3) := by decide +kernel
theorem dX0_narrowCuts_37 : decode cX0_narrowCuts 37 = .ok (.iload 4, 2) := by decide +kernel
theorem dX0_narrowCuts_39 : decode cX0_narrowCuts 39 = .ok (.iconst 1, 1) := by decide +kernel
theorem dX0_narrowCuts_40 : decode cX0_narrowCuts 40 = .ok (.if_icmp .eq 24, 3) := by decide +kernel
theorem dX0_narrowCuts_43 : decode cX0_narrowCuts 43 = .ok (.aload_n 0, 1) := by decide +kernel
theorem dX0_narrowCuts_44 : decode cX0_narrowCuts 44 = .ok (.iload_n 2, 1) := by decide +kernel
theorem dX0_narrowCuts_45 : decode cX0_narrowCuts 45 = .ok (.iload_n 3, 1) := by decide +kernel
theorem dX0_narrowCuts_46 : decode cX0_narrowCuts 46 = .ok (.invokevirtual 111, 3) := by decide +kernel
theorem dX0_narrowCuts_49 : decode cX0_narrowCuts 49 = .ok (.istore 5, 2) := by decide +kernel
theorem dX0_narrowCuts_51 : decode cX0_narrowCuts 51 = .ok (.iload 5, 2) := by decide +kernel
theorem dX0_narrowCuts_53 : decode cX0_narrowCuts 53 = .ok (.ifCond .ne 11, 3) := by decide +kernel
theorem dX0_narrowCuts_56 : decode cX0_narrowCuts 56 = .ok (.iload_n 2, 1) := by decide +kernel
theorem dX0_narrowCuts_57 : decode cX0_narrowCuts 57 = .ok (.iload_n 3, 1) := by decide +kernel
theorem dX0_narrowCuts_58 : decode cX0_narrowCuts 58 = .ok (.bipush 6, 2) := by decide +kernel
theorem dX0_narrowCuts_60 : decode cX0_narrowCuts 60 = .ok (.invokestatic 107, 3) := by decide +kernel
theorem dX0_narrowCuts_63 : decode cX0_narrowCuts 63 = .ok (.istore_n 2, 1) := by decide +kernel
theorem dX0_narrowCuts_64 : decode cX0_narrowCuts 64 = .ok (.iinc 3 1, 3) := by decide +kernel
theorem dX0_narrowCuts_67 : decode cX0_narrowCuts 67 = .ok (.goto (-52), 3) := by decide +kernel
theorem dX0_narrowCuts_70 : decode cX0_narrowCuts 70 = .ok (.iload_n 2, 1) := by decide +kernel
theorem dX0_narrowCuts_71 : decode cX0_narrowCuts 71 = .ok (.ireturn, 1) := by decide +kernel
abbrev cX0_hangTogether : ByteArray := prog_1_method_25_code
def yX0_hangTogether : MethodName := ⟨RX0, "hangTogether", "(II)Z"⟩
theorem dX0_hangTogether_0 : decode cX0_hangTogether 0 = .ok (.iconst 1, 1) := by decide +kernel
theorem dX0_hangTogether_1 : decode cX0_hangTogether 1 = .ok (.istore_n 3, 1) := by decide +kernel
theorem dX0_hangTogether_2 : decode cX0_hangTogether 2 = .ok (.iconst 0, 1) := by decide +kernel
theorem dX0_hangTogether_3 : decode cX0_hangTogether 3 = .ok (.istore 4, 2) := by decide +kernel
theorem dX0_hangTogether_5 : decode cX0_hangTogether 5 = .ok (.iload 4, 2) := by decide +kernel
theorem dX0_hangTogether_7 : decode cX0_hangTogether 7 = .ok (.bipush 7, 2) := by decide +kernel
theorem dX0_hangTogether_9 : decode cX0_hangTogether 9 = .ok (.if_icmp .ge 78, 3) := by decide +kernel
theorem dX0_hangTogether_12 : decode cX0_hangTogether 12 = .ok (.iconst 0, 1) := by decide +kernel
theorem dX0_hangTogether_13 : decode cX0_hangTogether 13 = .ok (.istore 5, 2) := by decide +kernel
theorem dX0_hangTogether_15 : decode cX0_hangTogether 15 = .ok (.iload 5, 2) := by decide +kernel
theorem dX0_hangTogether_17 : decode cX0_hangTogether 17 = .ok (.aload_n 0, 1) := by decide +kernel
theorem dX0_hangTogether_18 : decode cX0_hangTogether 18 = .ok (.getfield 55, 3) := by decide +kernel
theorem dX0_hangTogether_21 : decode cX0_hangTogether 21 = .ok (.if_icmp .ge 60, 3) := by decide +kernel
theorem dX0_hangTogether_24 : decode cX0_hangTogether 24 = .ok (.iload 5, 2) := by decide +kernel
theorem dX0_hangTogether_26 : decode cX0_hangTogether 26 = .ok (.iload_n 2, 1) := by decide +kernel
theorem dX0_hangTogether_27 : decode cX0_hangTogether 27 = .ok (.if_icmp .eq 48, 3) := by decide +kernel
theorem dX0_hangTogether_30 : decode cX0_hangTogether 30 = .ok (.iload_n 1, 1) := by decide +kernel
theorem dX0_hangTogether_31 : decode cX0_hangTogether 31 = .ok (.iload 5, 2) := by decide +kernel
theorem dX0_hangTogether_33 : decode cX0_hangTogether 33 = .ok (.invokestatic 67, 3) := by decide +kernel
theorem dX0_hangTogether_36 : decode cX0_hangTogether 36 = .ok (.bipush 6, 2) := by decide +kernel
theorem dX0_hangTogether_38 : decode cX0_hangTogether 38 = .ok (.iand, 1) := by decide +kernel
theorem dX0_hangTogether_39 : decode cX0_hangTogether 39 = .ok (.ifCond .eq 36, 3) := by decide +kernel
theorem dX0_hangTogether_42 : decode cX0_hangTogether 42 = .ok (.iconst 1, 1) := by decide +kernel
theorem dX0_hangTogether_43 : decode cX0_hangTogether 43 = .ok (.aload_n 0, 1) := by decide +kernel
theorem dX0_hangTogether_44 : decode cX0_hangTogether 44 = .ok (.getfield 19, 3) := by decide +kernel
theorem dX0_hangTogether_47 : decode cX0_hangTogether 47 = .ok (.iload 5, 2) := by decide +kernel
theorem dX0_hangTogether_49 : decode cX0_hangTogether 49 = .ok (.iaload, 1) := by decide +kernel
theorem dX0_hangTogether_50 : decode cX0_hangTogether 50 = .ok (.ishl, 1) := by decide +kernel
theorem dX0_hangTogether_51 : decode cX0_hangTogether 51 = .ok (.iconst 1, 1) := by decide +kernel
theorem dX0_hangTogether_52 : decode cX0_hangTogether 52 = .ok (.aload_n 0, 1) := by decide +kernel
theorem dX0_hangTogether_53 : decode cX0_hangTogether 53 = .ok (.getfield 22, 3) := by decide +kernel
theorem dX0_hangTogether_56 : decode cX0_hangTogether 56 = .ok (.iload 5, 2) := by decide +kernel
theorem dX0_hangTogether_58 : decode cX0_hangTogether 58 = .ok (.iaload, 1) := by decide +kernel
theorem dX0_hangTogether_59 : decode cX0_hangTogether 59 = .ok (.ishl, 1) := by decide +kernel
theorem dX0_hangTogether_60 : decode cX0_hangTogether 60 = .ok (.ior, 1) := by decide +kernel
theorem dX0_hangTogether_61 : decode cX0_hangTogether 61 = .ok (.istore 6, 2) := by decide +kernel
theorem dX0_hangTogether_63 : decode cX0_hangTogether 63 = .ok (.iload_n 3, 1) := by decide +kernel
theorem dX0_hangTogether_64 : decode cX0_hangTogether 64 = .ok (.iload 6, 2) := by decide +kernel
theorem dX0_hangTogether_66 : decode cX0_hangTogether 66 = .ok (.iand, 1) := by decide +kernel
theorem dX0_hangTogether_67 : decode cX0_hangTogether 67 = .ok (.ifCond .eq 8, 3) := by decide +kernel
theorem dX0_hangTogether_70 : decode cX0_hangTogether 70 = .ok (.iload_n 3, 1) := by decide +kernel
theorem dX0_hangTogether_71 : decode cX0_hangTogether 71 = .ok (.iload 6, 2) := by decide +kernel
theorem dX0_hangTogether_73 : decode cX0_hangTogether 73 = .ok (.ior, 1) := by decide +kernel
theorem dX0_hangTogether_74 : decode cX0_hangTogether 74 = .ok (.istore_n 3, 1) := by decide +kernel
theorem dX0_hangTogether_75 : decode cX0_hangTogether 75 = .ok (.iinc 5 1, 3) := by decide +kernel
theorem dX0_hangTogether_78 : decode cX0_hangTogether 78 = .ok (.goto (-63), 3) := by decide +kernel
theorem dX0_hangTogether_81 : decode cX0_hangTogether 81 = .ok (.iinc 4 1, 3) := by decide +kernel
theorem dX0_hangTogether_84 : decode cX0_hangTogether 84 = .ok (.goto (-79), 3) := by decide +kernel
theorem dX0_hangTogether_87 : decode cX0_hangTogether 87 = .ok (.aload_n 0, 1) := by decide +kernel
theorem dX0_hangTogether_88 : decode cX0_hangTogether 88 = .ok (.getfield 79, 3) := by decide +kernel
theorem dX0_hangTogether_91 : decode cX0_hangTogether 91 = .ok (.ifCond .eq 15, 3) := by decide +kernel
theorem dX0_hangTogether_94 : decode cX0_hangTogether 94 = .ok (.iload_n 3, 1) := by decide +kernel
theorem dX0_hangTogether_95 : decode cX0_hangTogether 95 = .ok (.iconst 1, 1) := by decide +kernel
theorem dX0_hangTogether_96 : decode cX0_hangTogether 96 = .ok (.aload_n 0, 1) := by decide +kernel
theorem dX0_hangTogether_97 : decode cX0_hangTogether 97 = .ok (.getfield 79, 3) := by decide +kernel
theorem dX0_hangTogether_100 : decode cX0_hangTogether 100 = .ok (.ishl, 1) := by decide +kernel
theorem dX0_hangTogether_101 : decode cX0_hangTogether 101 = .ok (.iconst 1, 1) := by decide +kernel
theorem dX0_hangTogether_102 : decode cX0_hangTogether 102 = .ok (.isub, 1) := by decide +kernel
theorem dX0_hangTogether_103 : decode cX0_hangTogether 103 = .ok (.if_icmp .ne 7, 3) := by decide +kernel
theorem dX0_hangTogether_106 : decode cX0_hangTogether 106 = .ok (.iconst 1, 1) := by decide +kernel
theorem dX0_hangTogether_107 : decode cX0_hangTogether 107 = .ok (.goto 4, 3) := by decide +kernel
theorem dX0_hangTogether_110 : decode cX0_hangTogether 110 = .ok (.iconst 0, 1) := by decide +kernel
theorem dX0_hangTogether_111 : decode cX0_hangTogether 111 = .ok (.ireturn, 1) := by decide +kernel
abbrev cX0_firstOpen : ByteArray := prog_1_method_27_code
def yX0_firstOpen : MethodName := ⟨RX0, "firstOpen", "(I)I"⟩
theorem dX0_firstOpen_0 : decode cX0_firstOpen 0 = .ok (.iconst 0, 1) := by decide +kernel
theorem dX0_firstOpen_1 : decode cX0_firstOpen 1 = .ok (.istore_n 2, 1) := by decide +kernel
theorem dX0_firstOpen_2 : decode cX0_firstOpen 2 = .ok (.iload_n 2, 1) := by decide +kernel
theorem dX0_firstOpen_3 : decode cX0_firstOpen 3 = .ok (.aload_n 0, 1) := by decide +kernel
theorem dX0_firstOpen_4 : decode cX0_firstOpen 4 = .ok (.getfield 55, 3) := by decide +kernel
theorem dX0_firstOpen_7 : decode cX0_firstOpen 7 = .ok (.if_icmp .ge 25, 3) := by decide +kernel
theorem dX0_firstOpen_10 : decode cX0_firstOpen 10 = .ok (.iload_n 1, 1) := by decide +kernel
theorem dX0_firstOpen_11 : decode cX0_firstOpen 11 = .ok (.iload_n 2, 1) := by decide +kernel
theorem dX0_firstOpen_12 : decode cX0_firstOpen 12 = .ok (.invokestatic 67, 3) := by decide +kernel
theorem dX0_firstOpen_15 : decode cX0_firstOpen 15 = .ok (.istore_n 3, 1) := by decide +kernel
theorem dX0_firstOpen_16 : decode cX0_firstOpen 16 = .ok (.iload_n 3, 1) := by decide +kernel
theorem dX0_firstOpen_17 : decode cX0_firstOpen 17 = .ok (.iload_n 3, 1) := by decide +kernel
theorem dX0_firstOpen_18 : decode cX0_firstOpen 18 = .ok (.iconst 1, 1) := by decide +kernel
theorem dX0_firstOpen_19 : decode cX0_firstOpen 19 = .ok (.isub, 1) := by decide +kernel
theorem dX0_firstOpen_20 : decode cX0_firstOpen 20 = .ok (.iand, 1) := by decide +kernel
theorem dX0_firstOpen_21 : decode cX0_firstOpen 21 = .ok (.ifCond .eq 5, 3) := by decide +kernel
theorem dX0_firstOpen_24 : decode cX0_firstOpen 24 = .ok (.iload_n 2, 1) := by decide +kernel
theorem dX0_firstOpen_25 : decode cX0_firstOpen 25 = .ok (.ireturn, 1) := by decide +kernel
theorem dX0_firstOpen_26 : decode cX0_firstOpen 26 = .ok (.iinc 2 1, 3) := by decide +kernel
theorem dX0_firstOpen_29 : decode cX0_firstOpen 29 = .ok (.goto (-27), 3) := by decide +kernel
theorem dX0_firstOpen_32 : decode cX0_firstOpen 32 = .ok (.iconst (-1), 1) := by decide +kernel
theorem dX0_firstOpen_33 : decode cX0_firstOpen 33 = .ok (.ireturn, 1) := by decide +kernel
abbrev cX0_keep : ByteArray := prog_1_method_29_code
def yX0_keep : MethodName := ⟨RX0, "keep", "(I)V"⟩
theorem dX0_keep_0 : decode cX0_keep 0 = .ok (.aload_n 0, 1) := by decide +kernel
theorem dX0_keep_1 : decode cX0_keep 1 = .ok (.getfield 61, 3) := by decide +kernel
theorem dX0_keep_4 : decode cX0_keep 4 = .ok (.ifCond .ne 8, 3) := by decide +kernel
theorem dX0_keep_7 : decode cX0_keep 7 = .ok (.aload_n 0, 1) := by decide +kernel
theorem dX0_keep_8 : decode cX0_keep 8 = .ok (.iload_n 1, 1) := by decide +kernel
theorem dX0_keep_9 : decode cX0_keep 9 = .ok (.putfield 64, 3) := by decide +kernel
theorem dX0_keep_12 : decode cX0_keep 12 = .ok (.aload_n 0, 1) := by decide +kernel
theorem dX0_keep_13 : decode cX0_keep 13 = .ok (.dup, 1) := by decide +kernel
theorem dX0_keep_14 : decode cX0_keep 14 = .ok (.getfield 61, 3) := by decide +kernel
theorem dX0_keep_17 : decode cX0_keep 17 = .ok (.iconst 1, 1) := by decide +kernel
theorem dX0_keep_18 : decode cX0_keep 18 = .ok (.iadd, 1) := by decide +kernel
theorem dX0_keep_19 : decode cX0_keep 19 = .ok (.putfield 61, 3) := by decide +kernel
theorem dX0_keep_22 : decode cX0_keep 22 = .ok (.iconst 0, 1) := by decide +kernel
theorem dX0_keep_23 : decode cX0_keep 23 = .ok (.istore_n 2, 1) := by decide +kernel
theorem dX0_keep_24 : decode cX0_keep 24 = .ok (.iload_n 2, 1) := by decide +kernel
theorem dX0_keep_25 : decode cX0_keep 25 = .ok (.aload_n 0, 1) := by decide +kernel
theorem dX0_keep_26 : decode cX0_keep 26 = .ok (.getfield 55, 3) := by decide +kernel
theorem dX0_keep_29 : decode cX0_keep 29 = .ok (.if_icmp .ge 32, 3) := by decide +kernel
theorem dX0_keep_32 : decode cX0_keep 32 = .ok (.iload_n 1, 1) := by decide +kernel
theorem dX0_keep_33 : decode cX0_keep 33 = .ok (.iload_n 2, 1) := by decide +kernel
theorem dX0_keep_34 : decode cX0_keep 34 = .ok (.invokestatic 67, 3) := by decide +kernel
theorem dX0_keep_37 : decode cX0_keep 37 = .ok (.istore_n 3, 1) := by decide +kernel
theorem dX0_keep_38 : decode cX0_keep 38 = .ok (.aload_n 0, 1) := by decide +kernel
theorem dX0_keep_39 : decode cX0_keep 39 = .ok (.getfield 32, 3) := by decide +kernel
theorem dX0_keep_42 : decode cX0_keep 42 = .ok (.iconst 3, 1) := by decide +kernel
theorem dX0_keep_43 : decode cX0_keep 43 = .ok (.iload_n 2, 1) := by decide +kernel
theorem dX0_keep_44 : decode cX0_keep 44 = .ok (.imul, 1) := by decide +kernel
theorem dX0_keep_45 : decode cX0_keep 45 = .ok (.iload_n 3, 1) := by decide +kernel
theorem dX0_keep_46 : decode cX0_keep 46 = .ok (.invokestatic 71, 3) := by decide +kernel
theorem dX0_keep_49 : decode cX0_keep 49 = .ok (.iadd, 1) := by decide +kernel
theorem dX0_keep_50 : decode cX0_keep 50 = .ok (.dup2, 1) := by decide +kernel
theorem dX0_keep_51 : decode cX0_keep 51 = .ok (.iaload, 1) := by decide +kernel
theorem dX0_keep_52 : decode cX0_keep 52 = .ok (.iconst 1, 1) := by decide +kernel
theorem dX0_keep_53 : decode cX0_keep 53 = .ok (.iadd, 1) := by decide +kernel
theorem dX0_keep_54 : decode cX0_keep 54 = .ok (.iastore, 1) := by decide +kernel
theorem dX0_keep_55 : decode cX0_keep 55 = .ok (.iinc 2 1, 3) := by decide +kernel
theorem dX0_keep_58 : decode cX0_keep 58 = .ok (.goto (-34), 3) := by decide +kernel
theorem dX0_keep_61 : decode cX0_keep 61 = .ok (.return_, 1) := by decide +kernel
abbrev cX0_guess : ByteArray := prog_1_method_28_code
def yX0_guess : MethodName := ⟨RX0, "guess", "(I)Z"⟩
theorem dX0_guess_0 : decode cX0_guess 0 = .ok (.aload_n 0, 1) := by decide +kernel
theorem dX0_guess_1 : decode cX0_guess 1 = .ok (.getfield 41, 3) := by decide +kernel
theorem dX0_guess_4 : decode cX0_guess 4 = .ok (.iload_n 1, 1) := by decide +kernel
theorem dX0_guess_5 : decode cX0_guess 5 = .ok (.iaload, 1) := by decide +kernel
theorem dX0_guess_6 : decode cX0_guess 6 = .ok (.istore_n 2, 1) := by decide +kernel
theorem dX0_guess_7 : decode cX0_guess 7 = .ok (.iload_n 2, 1) := by decide +kernel
theorem dX0_guess_8 : decode cX0_guess 8 = .ok (.iconst 2, 1) := by decide +kernel
theorem dX0_guess_9 : decode cX0_guess 9 = .ok (.if_icmp .le 5, 3) := by decide +kernel
theorem dX0_guess_12 : decode cX0_guess 12 = .ok (.iconst 0, 1) := by decide +kernel
theorem dX0_guess_13 : decode cX0_guess 13 = .ok (.ireturn, 1) := by decide +kernel
theorem dX0_guess_14 : decode cX0_guess 14 = .ok (.aload_n 0, 1) := by decide +kernel
theorem dX0_guess_15 : decode cX0_guess 15 = .ok (.getfield 41, 3) := by decide +kernel
theorem dX0_guess_18 : decode cX0_guess 18 = .ok (.iload_n 1, 1) := by decide +kernel
theorem dX0_guess_19 : decode cX0_guess 19 = .ok (.iload_n 2, 1) := by decide +kernel
theorem dX0_guess_20 : decode cX0_guess 20 = .ok (.iconst 1, 1) := by decide +kernel
theorem dX0_guess_21 : decode cX0_guess 21 = .ok (.iadd, 1) := by decide +kernel
theorem dX0_guess_22 : decode cX0_guess 22 = .ok (.iastore, 1) := by decide +kernel
theorem dX0_guess_23 : decode cX0_guess 23 = .ok (.aload_n 0, 1) := by decide +kernel
theorem dX0_guess_24 : decode cX0_guess 24 = .ok (.getfield 38, 3) := by decide +kernel
theorem dX0_guess_27 : decode cX0_guess 27 = .ok (.iload_n 1, 1) := by decide +kernel
theorem dX0_guess_28 : decode cX0_guess 28 = .ok (.iaload, 1) := by decide +kernel
theorem dX0_guess_29 : decode cX0_guess 29 = .ok (.istore_n 3, 1) := by decide +kernel
theorem dX0_guess_30 : decode cX0_guess 30 = .ok (.aload_n 0, 1) := by decide +kernel
theorem dX0_guess_31 : decode cX0_guess 31 = .ok (.getfield 35, 3) := by decide +kernel
theorem dX0_guess_34 : decode cX0_guess 34 = .ok (.iload_n 1, 1) := by decide +kernel
theorem dX0_guess_35 : decode cX0_guess 35 = .ok (.iaload, 1) := by decide +kernel
theorem dX0_guess_36 : decode cX0_guess 36 = .ok (.iload_n 3, 1) := by decide +kernel
theorem dX0_guess_37 : decode cX0_guess 37 = .ok (.invokestatic 67, 3) := by decide +kernel
theorem dX0_guess_40 : decode cX0_guess 40 = .ok (.iload_n 2, 1) := by decide +kernel
theorem dX0_guess_41 : decode cX0_guess 41 = .ok (.iushr, 1) := by decide +kernel
theorem dX0_guess_42 : decode cX0_guess 42 = .ok (.iconst 1, 1) := by decide +kernel
theorem dX0_guess_43 : decode cX0_guess 43 = .ok (.iand, 1) := by decide +kernel
theorem dX0_guess_44 : decode cX0_guess 44 = .ok (.ifCond .ne 5, 3) := by decide +kernel
theorem dX0_guess_47 : decode cX0_guess 47 = .ok (.iconst 0, 1) := by decide +kernel
theorem dX0_guess_48 : decode cX0_guess 48 = .ok (.ireturn, 1) := by decide +kernel
theorem dX0_guess_49 : decode cX0_guess 49 = .ok (.aload_n 0, 1) := by decide +kernel
theorem dX0_guess_50 : decode cX0_guess 50 = .ok (.getfield 35, 3) := by decide +kernel
theorem dX0_guess_53 : decode cX0_guess 53 = .ok (.iload_n 1, 1) := by decide +kernel
theorem dX0_guess_54 : decode cX0_guess 54 = .ok (.iaload, 1) := by decide +kernel
theorem dX0_guess_55 : decode cX0_guess 55 = .ok (.iload_n 3, 1) := by decide +kernel
theorem dX0_guess_56 : decode cX0_guess 56 = .ok (.iconst 1, 1) := by decide +kernel
theorem dX0_guess_57 : decode cX0_guess 57 = .ok (.iload_n 2, 1) := by decide +kernel
theorem dX0_guess_58 : decode cX0_guess 58 = .ok (.ishl, 1) := by decide +kernel
theorem dX0_guess_59 : decode cX0_guess 59 = .ok (.invokestatic 107, 3) := by decide +kernel
theorem dX0_guess_62 : decode cX0_guess 62 = .ok (.istore 4, 2) := by decide +kernel
theorem dX0_guess_64 : decode cX0_guess 64 = .ok (.aload_n 0, 1) := by decide +kernel
theorem dX0_guess_65 : decode cX0_guess 65 = .ok (.iload 4, 2) := by decide +kernel
theorem dX0_guess_67 : decode cX0_guess 67 = .ok (.invokevirtual 114, 3) := by decide +kernel
theorem dX0_guess_70 : decode cX0_guess 70 = .ok (.istore 5, 2) := by decide +kernel
theorem dX0_guess_72 : decode cX0_guess 72 = .ok (.iload 5, 2) := by decide +kernel
theorem dX0_guess_74 : decode cX0_guess 74 = .ok (.ifCond .ge 5, 3) := by decide +kernel
theorem dX0_guess_77 : decode cX0_guess 77 = .ok (.iconst 0, 1) := by decide +kernel
theorem dX0_guess_78 : decode cX0_guess 78 = .ok (.ireturn, 1) := by decide +kernel
theorem dX0_guess_79 : decode cX0_guess 79 = .ok (.aload_n 0, 1) := by decide +kernel
theorem dX0_guess_80 : decode cX0_guess 80 = .ok (.getfield 35, 3) := by decide +kernel
theorem dX0_guess_83 : decode cX0_guess 83 = .ok (.iload_n 1, 1) := by decide +kernel
theorem dX0_guess_84 : decode cX0_guess 84 = .ok (.iconst 1, 1) := by decide +kernel
theorem dX0_guess_85 : decode cX0_guess 85 = .ok (.iadd, 1) := by decide +kernel
theorem dX0_guess_86 : decode cX0_guess 86 = .ok (.iload 5, 2) := by decide +kernel
theorem dX0_guess_88 : decode cX0_guess 88 = .ok (.iastore, 1) := by decide +kernel
theorem dX0_guess_89 : decode cX0_guess 89 = .ok (.iconst 1, 1) := by decide +kernel
theorem dX0_guess_90 : decode cX0_guess 90 = .ok (.ireturn, 1) := by decide +kernel
abbrev cX0_least : ByteArray := prog_1_method_8_code
def yX0_least : MethodName := ⟨RX0, "least", "(I)I"⟩
theorem dX0_least_0 : decode cX0_least 0 = .ok (.aload_n 0, 1) := by decide +kernel
theorem dX0_least_1 : decode cX0_least 1 = .ok (.getfield 55, 3) := by decide +kernel
theorem dX0_least_4 : decode cX0_least 4 = .ok (.bipush 8, 2) := by decide +kernel
theorem dX0_least_6 : decode cX0_least 6 = .ok (.if_icmp .le 6, 3) := by decide +kernel
theorem dX0_least_9 : decode cX0_least 9 = .ok (.bipush (-2), 2) := by decide +kernel
theorem dX0_least_11 : decode cX0_least 11 = .ok (.ireturn, 1) := by decide +kernel
theorem dX0_least_12 : decode cX0_least 12 = .ok (.iload_n 1, 1) := by decide +kernel
theorem dX0_least_13 : decode cX0_least 13 = .ok (.ifCond .lt 11, 3) := by decide +kernel
theorem dX0_least_16 : decode cX0_least 16 = .ok (.iload_n 1, 1) := by decide +kernel
theorem dX0_least_17 : decode cX0_least 17 = .ok (.aload_n 0, 1) := by decide +kernel
theorem dX0_least_18 : decode cX0_least 18 = .ok (.getfield 55, 3) := by decide +kernel
theorem dX0_least_21 : decode cX0_least 21 = .ok (.if_icmp .lt 5, 3) := by decide +kernel
theorem dX0_least_24 : decode cX0_least 24 = .ok (.iconst (-1), 1) := by decide +kernel
theorem dX0_least_25 : decode cX0_least 25 = .ok (.ireturn, 1) := by decide +kernel
theorem dX0_least_26 : decode cX0_least 26 = .ok (.aload_n 0, 1) := by decide +kernel
theorem dX0_least_27 : decode cX0_least 27 = .ok (.invokevirtual 58, 3) := by decide +kernel
theorem dX0_least_30 : decode cX0_least 30 = .ok (.aload_n 0, 1) := by decide +kernel
theorem dX0_least_31 : decode cX0_least 31 = .ok (.getfield 61, 3) := by decide +kernel
theorem dX0_least_34 : decode cX0_least 34 = .ok (.ifCond .ne 5, 3) := by decide +kernel
theorem dX0_least_37 : decode cX0_least 37 = .ok (.iconst (-1), 1) := by decide +kernel
theorem dX0_least_38 : decode cX0_least 38 = .ok (.ireturn, 1) := by decide +kernel
theorem dX0_least_39 : decode cX0_least 39 = .ok (.aload_n 0, 1) := by decide +kernel
theorem dX0_least_40 : decode cX0_least 40 = .ok (.getfield 64, 3) := by decide +kernel
theorem dX0_least_43 : decode cX0_least 43 = .ok (.iload_n 1, 1) := by decide +kernel
theorem dX0_least_44 : decode cX0_least 44 = .ok (.invokestatic 67, 3) := by decide +kernel
theorem dX0_least_47 : decode cX0_least 47 = .ok (.istore_n 2, 1) := by decide +kernel
theorem dX0_least_48 : decode cX0_least 48 = .ok (.iload_n 2, 1) := by decide +kernel
theorem dX0_least_49 : decode cX0_least 49 = .ok (.invokestatic 71, 3) := by decide +kernel
theorem dX0_least_52 : decode cX0_least 52 = .ok (.ireturn, 1) := by decide +kernel
abbrev cX0_always : ByteArray := prog_1_method_9_code
def yX0_always : MethodName := ⟨RX0, "always", "(I)I"⟩
theorem dX0_always_0 : decode cX0_always 0 = .ok (.aload_n 0, 1) := by decide +kernel
theorem dX0_always_1 : decode cX0_always 1 = .ok (.getfield 55, 3) := by decide +kernel
theorem dX0_always_4 : decode cX0_always 4 = .ok (.bipush 8, 2) := by decide +kernel
theorem dX0_always_6 : decode cX0_always 6 = .ok (.if_icmp .le 6, 3) := by decide +kernel
theorem dX0_always_9 : decode cX0_always 9 = .ok (.bipush (-2), 2) := by decide +kernel
theorem dX0_always_11 : decode cX0_always 11 = .ok (.ireturn, 1) := by decide +kernel
theorem dX0_always_12 : decode cX0_always 12 = .ok (.iload_n 1, 1) := by decide +kernel
theorem dX0_always_13 : decode cX0_always 13 = .ok (.ifCond .lt 11, 3) := by decide +kernel
theorem dX0_always_16 : decode cX0_always 16 = .ok (.iload_n 1, 1) := by decide +kernel
theorem dX0_always_17 : decode cX0_always 17 = .ok (.aload_n 0, 1) := by decide +kernel
theorem dX0_always_18 : decode cX0_always 18 = .ok (.getfield 55, 3) := by decide +kernel
theorem dX0_always_21 : decode cX0_always 21 = .ok (.if_icmp .lt 5, 3) := by decide +kernel
theorem dX0_always_24 : decode cX0_always 24 = .ok (.iconst (-1), 1) := by decide +kernel
theorem dX0_always_25 : decode cX0_always 25 = .ok (.ireturn, 1) := by decide +kernel
theorem dX0_always_26 : decode cX0_always 26 = .ok (.aload_n 0, 1) := by decide +kernel
theorem dX0_always_27 : decode cX0_always 27 = .ok (.invokevirtual 58, 3) := by decide +kernel
theorem dX0_always_30 : decode cX0_always 30 = .ok (.iconst 0, 1) := by decide +kernel
theorem dX0_always_31 : decode cX0_always 31 = .ok (.istore_n 2, 1) := by decide +kernel
theorem dX0_always_32 : decode cX0_always 32 = .ok (.iload_n 2, 1) := by decide +kernel
theorem dX0_always_33 : decode cX0_always 33 = .ok (.iconst 3, 1) := by decide +kernel
theorem dX0_always_34 : decode cX0_always 34 = .ok (.if_icmp .ge 35, 3) := by decide +kernel
theorem dX0_always_37 : decode cX0_always 37 = .ok (.aload_n 0, 1) := by decide +kernel
theorem dX0_always_38 : decode cX0_always 38 = .ok (.getfield 61, 3) := by decide +kernel
theorem dX0_always_41 : decode cX0_always 41 = .ok (.ifCond .le 22, 3) := by decide +kernel
theorem dX0_always_44 : decode cX0_always 44 = .ok (.aload_n 0, 1) := by decide +kernel
theorem dX0_always_45 : decode cX0_always 45 = .ok (.getfield 32, 3) := by decide +kernel
theorem dX0_always_48 : decode cX0_always 48 = .ok (.iconst 3, 1) := by decide +kernel
theorem dX0_always_49 : decode cX0_always 49 = .ok (.iload_n 1, 1) := by decide +kernel
theorem dX0_always_50 : decode cX0_always 50 = .ok (.imul, 1) := by decide +kernel
theorem dX0_always_51 : decode cX0_always 51 = .ok (.iload_n 2, 1) := by decide +kernel
theorem dX0_always_52 : decode cX0_always 52 = .ok (.iadd, 1) := by decide +kernel
theorem dX0_always_53 : decode cX0_always 53 = .ok (.iaload, 1) := by decide +kernel
theorem dX0_always_54 : decode cX0_always 54 = .ok (.aload_n 0, 1) := by decide +kernel
theorem dX0_always_55 : decode cX0_always 55 = .ok (.getfield 61, 3) := by decide +kernel
theorem dX0_always_58 : decode cX0_always 58 = .ok (.if_icmp .ne 5, 3) := by decide +kernel
theorem dX0_always_61 : decode cX0_always 61 = .ok (.iload_n 2, 1) := by decide +kernel
theorem dX0_always_62 : decode cX0_always 62 = .ok (.ireturn, 1) := by decide +kernel
theorem dX0_always_63 : decode cX0_always 63 = .ok (.iinc 2 1, 3) := by decide +kernel
theorem dX0_always_66 : decode cX0_always 66 = .ok (.goto (-34), 3) := by decide +kernel
theorem dX0_always_69 : decode cX0_always 69 = .ok (.iconst (-1), 1) := by decide +kernel
theorem dX0_always_70 : decode cX0_always 70 = .ok (.ireturn, 1) := by decide +kernel
abbrev cX0_with : ByteArray := prog_1_method_10_code
def yX0_with : MethodName := ⟨RX0, "with", "(II)I"⟩
theorem dX0_with_0 : decode cX0_with 0 = .ok (.aload_n 0, 1) := by decide +kernel
theorem dX0_with_1 : decode cX0_with 1 = .ok (.getfield 55, 3) := by decide +kernel
theorem dX0_with_4 : decode cX0_with 4 = .ok (.bipush 8, 2) := by decide +kernel
theorem dX0_with_6 : decode cX0_with 6 = .ok (.if_icmp .le 6, 3) := by decide +kernel
theorem dX0_with_9 : decode cX0_with 9 = .ok (.bipush (-2), 2) := by decide +kernel
theorem dX0_with_11 : decode cX0_with 11 = .ok (.ireturn, 1) := by decide +kernel
theorem dX0_with_12 : decode cX0_with 12 = .ok (.iload_n 1, 1) := by decide +kernel
theorem dX0_with_13 : decode cX0_with 13 = .ok (.ifCond .lt 20, 3) := by decide +kernel
theorem dX0_with_16 : decode cX0_with 16 = .ok (.iload_n 1, 1) := by decide +kernel
theorem dX0_with_17 : decode cX0_with 17 = .ok (.aload_n 0, 1) := by decide +kernel
theorem dX0_with_18 : decode cX0_with 18 = .ok (.getfield 55, 3) := by decide +kernel
theorem dX0_with_21 : decode cX0_with 21 = .ok (.if_icmp .ge 12, 3) := by decide +kernel
theorem dX0_with_24 : decode cX0_with 24 = .ok (.iload_n 2, 1) := by decide +kernel
theorem dX0_with_25 : decode cX0_with 25 = .ok (.ifCond .lt 8, 3) := by decide +kernel
theorem dX0_with_28 : decode cX0_with 28 = .ok (.iload_n 2, 1) := by decide +kernel
theorem dX0_with_29 : decode cX0_with 29 = .ok (.iconst 2, 1) := by decide +kernel
theorem dX0_with_30 : decode cX0_with 30 = .ok (.if_icmp .le 5, 3) := by decide +kernel
theorem dX0_with_33 : decode cX0_with 33 = .ok (.iconst (-1), 1) := by decide +kernel
theorem dX0_with_34 : decode cX0_with 34 = .ok (.ireturn, 1) := by decide +kernel
theorem dX0_with_35 : decode cX0_with 35 = .ok (.aload_n 0, 1) := by decide +kernel
theorem dX0_with_36 : decode cX0_with 36 = .ok (.invokevirtual 58, 3) := by decide +kernel
theorem dX0_with_39 : decode cX0_with 39 = .ok (.aload_n 0, 1) := by decide +kernel
theorem dX0_with_40 : decode cX0_with 40 = .ok (.getfield 32, 3) := by decide +kernel
theorem dX0_with_43 : decode cX0_with 43 = .ok (.iconst 3, 1) := by decide +kernel
theorem dX0_with_44 : decode cX0_with 44 = .ok (.iload_n 1, 1) := by decide +kernel
theorem dX0_with_45 : decode cX0_with 45 = .ok (.imul, 1) := by decide +kernel
theorem dX0_with_46 : decode cX0_with 46 = .ok (.iload_n 2, 1) := by decide +kernel
theorem dX0_with_47 : decode cX0_with 47 = .ok (.iadd, 1) := by decide +kernel
theorem dX0_with_48 : decode cX0_with 48 = .ok (.iaload, 1) := by decide +kernel
theorem dX0_with_49 : decode cX0_with 49 = .ok (.ireturn, 1) := by decide +kernel
theorem q24 : (Jvm.Cond.initialized "BridgeBoard") ∈ lw_all := lw_g (lw_at lw_m1 1 rfl) rfl
theorem q27 : (Jvm.Cond.instantiable "BridgeBoard" (17 : Nat)) ∈ lw_all := lw_g (lw_at lw_m1 4 rfl) rfl
theorem q29 : (Jvm.Cond.instanceMethod ({ cls := "BridgeBoard", name := "<init>", desc := "()V" } : Jvm.MethodName)) ∈ lw_all := lw_g (lw_at lw_m1 6 rfl) rfl
theorem q30 : (Jvm.Cond.code ({ cls := "BridgeBoard", name := "<init>", desc := "()V" } : Jvm.MethodName) prog_1_method_1_code (1 : Nat) (Option.none : Option Jvm.ClassFile.FieldType)) ∈ lw_all := lw_g (lw_at lw_m1 7 rfl) rfl
theorem q31 : (Jvm.Cond.methodLink "BridgeBoard" (1 : Nat) ({ cls := "java/lang/Object", name := "<init>", desc := "()V" } : Jvm.MethodName)) ∈ lw_all := lw_g (lw_at lw_m1 8 rfl) rfl
theorem q34 : (Jvm.Cond.methodLink "BridgeBoard" (44 : Nat) ({ cls := "BridgeBoard", name := "listGaps", desc := "()V" } : Jvm.MethodName)) ∈ lw_all := lw_g (lw_at lw_m1 11 rfl) rfl
theorem q35 : (Jvm.Cond.privateMethod ({ cls := "BridgeBoard", name := "listGaps", desc := "()V" } : Jvm.MethodName)) ∈ lw_tbl := lw_at lw_m1 12 rfl
theorem q36 : (Jvm.Cond.instanceMethod ({ cls := "BridgeBoard", name := "listGaps", desc := "()V" } : Jvm.MethodName)) ∈ lw_all := lw_g (lw_at lw_m1 13 rfl) rfl
theorem q37 : (Jvm.Cond.code ({ cls := "BridgeBoard", name := "listGaps", desc := "()V" } : Jvm.MethodName) prog_1_method_12_code (3 : Nat) (Option.none : Option Jvm.ClassFile.FieldType)) ∈ lw_all := lw_g (lw_at lw_m1 14 rfl) rfl
theorem q38 : (Jvm.Cond.methodLink "BridgeBoard" (82 : Nat) ({ cls := "BridgeBoard", name := "look", desc := "(IIII)V" } : Jvm.MethodName)) ∈ lw_all := lw_g (lw_at lw_m1 15 rfl) rfl
theorem q39 : (Jvm.Cond.privateMethod ({ cls := "BridgeBoard", name := "look", desc := "(IIII)V" } : Jvm.MethodName)) ∈ lw_tbl := lw_at lw_m1 16 rfl
theorem q40 : (Jvm.Cond.instanceMethod ({ cls := "BridgeBoard", name := "look", desc := "(IIII)V" } : Jvm.MethodName)) ∈ lw_all := lw_g (lw_at lw_m1 17 rfl) rfl
theorem q41 : (Jvm.Cond.code ({ cls := "BridgeBoard", name := "look", desc := "(IIII)V" } : Jvm.MethodName) prog_1_method_13_code (9 : Nat) (Option.none : Option Jvm.ClassFile.FieldType)) ∈ lw_all := lw_g (lw_at lw_m1 18 rfl) rfl
theorem q42 : (Jvm.Cond.fieldLink "BridgeBoard" (7 : Nat) "BridgeBoard" "number" "[I") ∈ lw_all := lw_g (lw_at lw_m1 19 rfl) rfl
theorem q43 : (Jvm.Cond.fieldLink "BridgeBoard" (51 : Nat) "BridgeBoard" "islands" "I") ∈ lw_all := lw_g (lw_at lw_m1 20 rfl) rfl
theorem q44 : (Jvm.Cond.fieldLink "BridgeBoard" (79 : Nat) "BridgeBoard" "listed" "I") ∈ lw_all := lw_g (lw_at lw_m1 21 rfl) rfl
theorem q45 : (Jvm.Cond.fieldLink "BridgeBoard" (13 : Nat) "BridgeBoard" "cellOf" "[I") ∈ lw_all := lw_g (lw_at lw_m1 22 rfl) rfl
theorem q46 : (Jvm.Cond.fieldLink "BridgeBoard" (16 : Nat) "BridgeBoard" "indexAt" "[I") ∈ lw_all := lw_g (lw_at lw_m1 23 rfl) rfl
theorem q47 : (Jvm.Cond.fieldLink "BridgeBoard" (55 : Nat) "BridgeBoard" "gapCount" "I") ∈ lw_all := lw_g (lw_at lw_m1 24 rfl) rfl
theorem q48 : (Jvm.Cond.fieldLink "BridgeBoard" (19 : Nat) "BridgeBoard" "near" "[I") ∈ lw_all := lw_g (lw_at lw_m1 25 rfl) rfl
theorem q49 : (Jvm.Cond.fieldLink "BridgeBoard" (22 : Nat) "BridgeBoard" "distant" "[I") ∈ lw_all := lw_g (lw_at lw_m1 26 rfl) rfl
theorem q50 : (Jvm.Cond.fieldLink "BridgeBoard" (25 : Nat) "BridgeBoard" "between" "[J") ∈ lw_all := lw_g (lw_at lw_m1 27 rfl) rfl
theorem q51 : (Jvm.Cond.fieldLink "BridgeBoard" (29 : Nat) "BridgeBoard" "crossing" "[I") ∈ lw_all := lw_g (lw_at lw_m1 28 rfl) rfl
theorem q52 : (Jvm.Cond.fieldLink "BridgeBoard" (75 : Nat) "BridgeBoard" "solved" "Z") ∈ lw_all := lw_g (lw_at lw_m1 29 rfl) rfl
theorem q53 : (Jvm.Cond.fieldLink "BridgeBoard" (61 : Nat) "BridgeBoard" "solutionCount" "I") ∈ lw_all := lw_g (lw_at lw_m1 30 rfl) rfl
theorem q54 : (Jvm.Cond.fieldLink "BridgeBoard" (64 : Nat) "BridgeBoard" "leastSolution" "I") ∈ lw_all := lw_g (lw_at lw_m1 31 rfl) rfl
theorem q55 : (Jvm.Cond.fieldLink "BridgeBoard" (32 : Nat) "BridgeBoard" "countWith" "[I") ∈ lw_all := lw_g (lw_at lw_m1 32 rfl) rfl
theorem q56 : (Jvm.Cond.fieldLink "BridgeBoard" (35 : Nat) "BridgeBoard" "domains" "[I") ∈ lw_all := lw_g (lw_at lw_m1 33 rfl) rfl
theorem q57 : (Jvm.Cond.fieldLink "BridgeBoard" (38 : Nat) "BridgeBoard" "choiceGap" "[I") ∈ lw_all := lw_g (lw_at lw_m1 34 rfl) rfl
theorem q58 : (Jvm.Cond.fieldLink "BridgeBoard" (41 : Nat) "BridgeBoard" "nextBridges" "[I") ∈ lw_all := lw_g (lw_at lw_m1 35 rfl) rfl
theorem q59 : (Jvm.Cond.laysFinal "BridgeBoard" "BridgeBoard" "number" "[I") ∈ lw_all := lw_g (lw_at lw_m1 36 rfl) rfl
theorem q60 : (Jvm.Cond.soleField "BridgeBoard" "number") ∈ lw_all := lw_g (lw_at lw_m1 37 rfl) rfl
theorem q61 : (Jvm.Cond.lays "BridgeBoard" "BridgeBoard" "islands" "I") ∈ lw_all := lw_g (lw_at lw_m1 38 rfl) rfl
theorem q62 : (Jvm.Cond.soleField "BridgeBoard" "islands") ∈ lw_all := lw_g (lw_at lw_m1 39 rfl) rfl
theorem q63 : (Jvm.Cond.lays "BridgeBoard" "BridgeBoard" "listed" "I") ∈ lw_all := lw_g (lw_at lw_m1 40 rfl) rfl
theorem q64 : (Jvm.Cond.soleField "BridgeBoard" "listed") ∈ lw_all := lw_g (lw_at lw_m1 41 rfl) rfl
theorem q65 : (Jvm.Cond.laysFinal "BridgeBoard" "BridgeBoard" "cellOf" "[I") ∈ lw_all := lw_g (lw_at lw_m1 42 rfl) rfl
theorem q66 : (Jvm.Cond.soleField "BridgeBoard" "cellOf") ∈ lw_all := lw_g (lw_at lw_m1 43 rfl) rfl
theorem q67 : (Jvm.Cond.laysFinal "BridgeBoard" "BridgeBoard" "indexAt" "[I") ∈ lw_all := lw_g (lw_at lw_m1 44 rfl) rfl
theorem q68 : (Jvm.Cond.soleField "BridgeBoard" "indexAt") ∈ lw_all := lw_g (lw_at lw_m1 45 rfl) rfl
theorem q69 : (Jvm.Cond.lays "BridgeBoard" "BridgeBoard" "gapCount" "I") ∈ lw_all := lw_g (lw_at lw_m1 46 rfl) rfl
theorem q70 : (Jvm.Cond.soleField "BridgeBoard" "gapCount") ∈ lw_all := lw_g (lw_at lw_m1 47 rfl) rfl
theorem q71 : (Jvm.Cond.laysFinal "BridgeBoard" "BridgeBoard" "near" "[I") ∈ lw_all := lw_g (lw_at lw_m1 48 rfl) rfl
theorem q72 : (Jvm.Cond.soleField "BridgeBoard" "near") ∈ lw_all := lw_g (lw_at lw_m1 49 rfl) rfl
theorem q73 : (Jvm.Cond.laysFinal "BridgeBoard" "BridgeBoard" "distant" "[I") ∈ lw_all := lw_g (lw_at lw_m1 50 rfl) rfl
theorem q74 : (Jvm.Cond.soleField "BridgeBoard" "distant") ∈ lw_all := lw_g (lw_at lw_m1 51 rfl) rfl
theorem q75 : (Jvm.Cond.laysFinal "BridgeBoard" "BridgeBoard" "between" "[J") ∈ lw_all := lw_g (lw_at lw_m1 52 rfl) rfl
theorem q76 : (Jvm.Cond.soleField "BridgeBoard" "between") ∈ lw_all := lw_g (lw_at lw_m1 53 rfl) rfl
theorem q77 : (Jvm.Cond.laysFinal "BridgeBoard" "BridgeBoard" "crossing" "[I") ∈ lw_all := lw_g (lw_at lw_m1 54 rfl) rfl
theorem q78 : (Jvm.Cond.soleField "BridgeBoard" "crossing") ∈ lw_all := lw_g (lw_at lw_m1 55 rfl) rfl
theorem q79 : (Jvm.Cond.lays "BridgeBoard" "BridgeBoard" "solved" "Z") ∈ lw_all := lw_g (lw_at lw_m1 56 rfl) rfl
theorem q80 : (Jvm.Cond.soleField "BridgeBoard" "solved") ∈ lw_all := lw_g (lw_at lw_m1 57 rfl) rfl
theorem q81 : (Jvm.Cond.lays "BridgeBoard" "BridgeBoard" "solutionCount" "I") ∈ lw_all := lw_g (lw_at lw_m1 58 rfl) rfl
theorem q82 : (Jvm.Cond.soleField "BridgeBoard" "solutionCount") ∈ lw_all := lw_g (lw_at lw_m1 59 rfl) rfl
theorem q83 : (Jvm.Cond.lays "BridgeBoard" "BridgeBoard" "leastSolution" "I") ∈ lw_all := lw_g (lw_at lw_m1 60 rfl) rfl
theorem q84 : (Jvm.Cond.soleField "BridgeBoard" "leastSolution") ∈ lw_all := lw_g (lw_at lw_m1 61 rfl) rfl
theorem q85 : (Jvm.Cond.laysFinal "BridgeBoard" "BridgeBoard" "countWith" "[I") ∈ lw_all := lw_g (lw_at lw_m1 62 rfl) rfl
theorem q86 : (Jvm.Cond.soleField "BridgeBoard" "countWith") ∈ lw_all := lw_g (lw_at lw_m1 63 rfl) rfl
theorem q87 : (Jvm.Cond.laysFinal "BridgeBoard" "BridgeBoard" "domains" "[I") ∈ lw_all := lw_g (lw_at lw_m1 64 rfl) rfl
theorem q88 : (Jvm.Cond.soleField "BridgeBoard" "domains") ∈ lw_all := lw_g (lw_at lw_m1 65 rfl) rfl
theorem q89 : (Jvm.Cond.laysFinal "BridgeBoard" "BridgeBoard" "choiceGap" "[I") ∈ lw_all := lw_g (lw_at lw_m1 66 rfl) rfl
theorem q90 : (Jvm.Cond.soleField "BridgeBoard" "choiceGap") ∈ lw_all := lw_g (lw_at lw_m1 67 rfl) rfl
theorem q91 : (Jvm.Cond.laysFinal "BridgeBoard" "BridgeBoard" "nextBridges" "[I") ∈ lw_all := lw_g (lw_at lw_m1 68 rfl) rfl
theorem q92 : (Jvm.Cond.soleField "BridgeBoard" "nextBridges") ∈ lw_all := lw_g (lw_at lw_m1 69 rfl) rfl
theorem q93 : (Jvm.Cond.superclass "BridgeBoard" "java/lang/Object") ∈ lw_all := lw_g (lw_at lw_m1 70 rfl) rfl
theorem q97 : (Jvm.Cond.instanceMethod ({ cls := "BridgeBoard", name := "place", desc := "(III)I" } : Jvm.MethodName)) ∈ lw_all := lw_g (lw_at lw_m1 74 rfl) rfl
theorem q98 : (Jvm.Cond.selects "BridgeBoard" ({ cls := "BridgeBoard", name := "place", desc := "(III)I" } : Jvm.MethodName) ({ cls := "BridgeBoard", name := "place", desc := "(III)I" } : Jvm.MethodName)) ∈ lw_all := lw_g (lw_at lw_m1 75 rfl) rfl
theorem q99 : (Jvm.Cond.code ({ cls := "BridgeBoard", name := "place", desc := "(III)I" } : Jvm.MethodName) prog_1_method_2_code (5 : Nat) (Option.some Jvm.ClassFile.FieldType.int)) ∈ lw_all := lw_g (lw_at lw_m1 76 rfl) rfl
theorem q100 : (Jvm.Cond.methodLink "BridgeBoard" (47 : Nat) ({ cls := "BridgeBoard", name := "onBoard", desc := "(II)Z" } : Jvm.MethodName)) ∈ lw_all := lw_g (lw_at lw_m1 77 rfl) rfl
theorem q101 : (Jvm.Cond.static ({ cls := "BridgeBoard", name := "onBoard", desc := "(II)Z" } : Jvm.MethodName)) ∈ lw_all := lw_g (lw_at lw_m1 78 rfl) rfl
theorem q102 : (Jvm.Cond.code ({ cls := "BridgeBoard", name := "onBoard", desc := "(II)Z" } : Jvm.MethodName) prog_1_method_11_code (2 : Nat) (Option.some Jvm.ClassFile.FieldType.boolean)) ∈ lw_all := lw_g (lw_at lw_m1 79 rfl) rfl
theorem q104 : (Jvm.Cond.instanceMethod ({ cls := "BridgeBoard", name := "remove", desc := "(II)I" } : Jvm.MethodName)) ∈ lw_all := lw_g (lw_at lw_m1 81 rfl) rfl
theorem q105 : (Jvm.Cond.selects "BridgeBoard" ({ cls := "BridgeBoard", name := "remove", desc := "(II)I" } : Jvm.MethodName) ({ cls := "BridgeBoard", name := "remove", desc := "(II)I" } : Jvm.MethodName)) ∈ lw_all := lw_g (lw_at lw_m1 82 rfl) rfl
theorem q106 : (Jvm.Cond.code ({ cls := "BridgeBoard", name := "remove", desc := "(II)I" } : Jvm.MethodName) prog_1_method_3_code (3 : Nat) (Option.some Jvm.ClassFile.FieldType.int)) ∈ lw_all := lw_g (lw_at lw_m1 83 rfl) rfl
theorem q108 : (Jvm.Cond.instanceMethod ({ cls := "BridgeBoard", name := "island", desc := "(II)I" } : Jvm.MethodName)) ∈ lw_all := lw_g (lw_at lw_m1 85 rfl) rfl
theorem q109 : (Jvm.Cond.selects "BridgeBoard" ({ cls := "BridgeBoard", name := "island", desc := "(II)I" } : Jvm.MethodName) ({ cls := "BridgeBoard", name := "island", desc := "(II)I" } : Jvm.MethodName)) ∈ lw_all := lw_g (lw_at lw_m1 86 rfl) rfl
theorem q110 : (Jvm.Cond.code ({ cls := "BridgeBoard", name := "island", desc := "(II)I" } : Jvm.MethodName) prog_1_method_4_code (3 : Nat) (Option.some Jvm.ClassFile.FieldType.int)) ∈ lw_all := lw_g (lw_at lw_m1 87 rfl) rfl
theorem q112 : (Jvm.Cond.instanceMethod ({ cls := "BridgeBoard", name := "gaps", desc := "()I" } : Jvm.MethodName)) ∈ lw_all := lw_g (lw_at lw_m1 89 rfl) rfl
theorem q113 : (Jvm.Cond.selects "BridgeBoard" ({ cls := "BridgeBoard", name := "gaps", desc := "()I" } : Jvm.MethodName) ({ cls := "BridgeBoard", name := "gaps", desc := "()I" } : Jvm.MethodName)) ∈ lw_all := lw_g (lw_at lw_m1 90 rfl) rfl
theorem q114 : (Jvm.Cond.code ({ cls := "BridgeBoard", name := "gaps", desc := "()I" } : Jvm.MethodName) prog_1_method_5_code (1 : Nat) (Option.some Jvm.ClassFile.FieldType.int)) ∈ lw_all := lw_g (lw_at lw_m1 91 rfl) rfl
theorem q116 : (Jvm.Cond.instanceMethod ({ cls := "BridgeBoard", name := "end", desc := "(IZ)I" } : Jvm.MethodName)) ∈ lw_all := lw_g (lw_at lw_m1 93 rfl) rfl
theorem q117 : (Jvm.Cond.selects "BridgeBoard" ({ cls := "BridgeBoard", name := "end", desc := "(IZ)I" } : Jvm.MethodName) ({ cls := "BridgeBoard", name := "end", desc := "(IZ)I" } : Jvm.MethodName)) ∈ lw_all := lw_g (lw_at lw_m1 94 rfl) rfl
theorem q118 : (Jvm.Cond.code ({ cls := "BridgeBoard", name := "end", desc := "(IZ)I" } : Jvm.MethodName) prog_1_method_6_code (3 : Nat) (Option.some Jvm.ClassFile.FieldType.int)) ∈ lw_all := lw_g (lw_at lw_m1 95 rfl) rfl
theorem q120 : (Jvm.Cond.instanceMethod ({ cls := "BridgeBoard", name := "solutions", desc := "()I" } : Jvm.MethodName)) ∈ lw_all := lw_g (lw_at lw_m1 97 rfl) rfl
theorem q121 : (Jvm.Cond.selects "BridgeBoard" ({ cls := "BridgeBoard", name := "solutions", desc := "()I" } : Jvm.MethodName) ({ cls := "BridgeBoard", name := "solutions", desc := "()I" } : Jvm.MethodName)) ∈ lw_all := lw_g (lw_at lw_m1 98 rfl) rfl
theorem q122 : (Jvm.Cond.code ({ cls := "BridgeBoard", name := "solutions", desc := "()I" } : Jvm.MethodName) prog_1_method_7_code (1 : Nat) (Option.some Jvm.ClassFile.FieldType.int)) ∈ lw_all := lw_g (lw_at lw_m1 99 rfl) rfl
theorem q123 : (Jvm.Cond.methodLink "BridgeBoard" (58 : Nat) ({ cls := "BridgeBoard", name := "solve", desc := "()V" } : Jvm.MethodName)) ∈ lw_all := lw_g (lw_at lw_m1 100 rfl) rfl
theorem q124 : (Jvm.Cond.privateMethod ({ cls := "BridgeBoard", name := "solve", desc := "()V" } : Jvm.MethodName)) ∈ lw_tbl := lw_at lw_m1 101 rfl
theorem q125 : (Jvm.Cond.instanceMethod ({ cls := "BridgeBoard", name := "solve", desc := "()V" } : Jvm.MethodName)) ∈ lw_all := lw_g (lw_at lw_m1 102 rfl) rfl
theorem q126 : (Jvm.Cond.code ({ cls := "BridgeBoard", name := "solve", desc := "()V" } : Jvm.MethodName) prog_1_method_26_code (5 : Nat) (Option.none : Option Jvm.ClassFile.FieldType)) ∈ lw_all := lw_g (lw_at lw_m1 103 rfl) rfl
theorem q127 : (Jvm.Cond.methodLink "BridgeBoard" (114 : Nat) ({ cls := "BridgeBoard", name := "narrow", desc := "(I)I" } : Jvm.MethodName)) ∈ lw_all := lw_g (lw_at lw_m1 104 rfl) rfl
theorem q128 : (Jvm.Cond.privateMethod ({ cls := "BridgeBoard", name := "narrow", desc := "(I)I" } : Jvm.MethodName)) ∈ lw_tbl := lw_at lw_m1 105 rfl
theorem q129 : (Jvm.Cond.instanceMethod ({ cls := "BridgeBoard", name := "narrow", desc := "(I)I" } : Jvm.MethodName)) ∈ lw_all := lw_g (lw_at lw_m1 106 rfl) rfl
theorem q130 : (Jvm.Cond.code ({ cls := "BridgeBoard", name := "narrow", desc := "(I)I" } : Jvm.MethodName) prog_1_method_19_code (6 : Nat) (Option.some Jvm.ClassFile.FieldType.int)) ∈ lw_all := lw_g (lw_at lw_m1 107 rfl) rfl
theorem q131 : (Jvm.Cond.methodLink "BridgeBoard" (86 : Nat) ({ cls := "BridgeBoard", name := "narrowIslands", desc := "(I)I" } : Jvm.MethodName)) ∈ lw_all := lw_g (lw_at lw_m1 108 rfl) rfl
theorem q132 : (Jvm.Cond.privateMethod ({ cls := "BridgeBoard", name := "narrowIslands", desc := "(I)I" } : Jvm.MethodName)) ∈ lw_tbl := lw_at lw_m1 109 rfl
theorem q133 : (Jvm.Cond.instanceMethod ({ cls := "BridgeBoard", name := "narrowIslands", desc := "(I)I" } : Jvm.MethodName)) ∈ lw_all := lw_g (lw_at lw_m1 110 rfl) rfl
theorem q134 : (Jvm.Cond.code ({ cls := "BridgeBoard", name := "narrowIslands", desc := "(I)I" } : Jvm.MethodName) prog_1_method_21_code (4 : Nat) (Option.some Jvm.ClassFile.FieldType.int)) ∈ lw_all := lw_g (lw_at lw_m1 111 rfl) rfl
theorem q135 : (Jvm.Cond.methodLink "BridgeBoard" (95 : Nat) ({ cls := "BridgeBoard", name := "narrowIsland", desc := "(II)I" } : Jvm.MethodName)) ∈ lw_all := lw_g (lw_at lw_m1 112 rfl) rfl
theorem q136 : (Jvm.Cond.privateMethod ({ cls := "BridgeBoard", name := "narrowIsland", desc := "(II)I" } : Jvm.MethodName)) ∈ lw_tbl := lw_at lw_m1 113 rfl
theorem q137 : (Jvm.Cond.instanceMethod ({ cls := "BridgeBoard", name := "narrowIsland", desc := "(II)I" } : Jvm.MethodName)) ∈ lw_all := lw_g (lw_at lw_m1 114 rfl) rfl
theorem q138 : (Jvm.Cond.code ({ cls := "BridgeBoard", name := "narrowIsland", desc := "(II)I" } : Jvm.MethodName) prog_1_method_22_code (12 : Nat) (Option.some Jvm.ClassFile.FieldType.int)) ∈ lw_all := lw_g (lw_at lw_m1 115 rfl) rfl
theorem q139 : (Jvm.Cond.methodLink "BridgeBoard" (98 : Nat) ({ cls := "BridgeBoard", name := "touches", desc := "(II)Z" } : Jvm.MethodName)) ∈ lw_all := lw_g (lw_at lw_m1 116 rfl) rfl
theorem q140 : (Jvm.Cond.privateMethod ({ cls := "BridgeBoard", name := "touches", desc := "(II)Z" } : Jvm.MethodName)) ∈ lw_tbl := lw_at lw_m1 117 rfl
theorem q141 : (Jvm.Cond.instanceMethod ({ cls := "BridgeBoard", name := "touches", desc := "(II)Z" } : Jvm.MethodName)) ∈ lw_all := lw_g (lw_at lw_m1 118 rfl) rfl
theorem q142 : (Jvm.Cond.code ({ cls := "BridgeBoard", name := "touches", desc := "(II)Z" } : Jvm.MethodName) prog_1_method_20_code (3 : Nat) (Option.some Jvm.ClassFile.FieldType.boolean)) ∈ lw_all := lw_g (lw_at lw_m1 119 rfl) rfl
theorem q143 : (Jvm.Cond.methodLink "BridgeBoard" (67 : Nat) ({ cls := "BridgeBoard", name := "domainOf", desc := "(II)I" } : Jvm.MethodName)) ∈ lw_all := lw_g (lw_at lw_m1 120 rfl) rfl
theorem q144 : (Jvm.Cond.static ({ cls := "BridgeBoard", name := "domainOf", desc := "(II)I" } : Jvm.MethodName)) ∈ lw_all := lw_g (lw_at lw_m1 121 rfl) rfl
theorem q145 : (Jvm.Cond.code ({ cls := "BridgeBoard", name := "domainOf", desc := "(II)I" } : Jvm.MethodName) prog_1_method_14_code (2 : Nat) (Option.some Jvm.ClassFile.FieldType.int)) ∈ lw_all := lw_g (lw_at lw_m1 122 rfl) rfl
theorem q146 : (Jvm.Cond.methodLink "BridgeBoard" (71 : Nat) ({ cls := "BridgeBoard", name := "lowest", desc := "(I)I" } : Jvm.MethodName)) ∈ lw_all := lw_g (lw_at lw_m1 123 rfl) rfl
theorem q147 : (Jvm.Cond.static ({ cls := "BridgeBoard", name := "lowest", desc := "(I)I" } : Jvm.MethodName)) ∈ lw_all := lw_g (lw_at lw_m1 124 rfl) rfl
theorem q148 : (Jvm.Cond.code ({ cls := "BridgeBoard", name := "lowest", desc := "(I)I" } : Jvm.MethodName) prog_1_method_15_code (1 : Nat) (Option.some Jvm.ClassFile.FieldType.int)) ∈ lw_all := lw_g (lw_at lw_m1 125 rfl) rfl
theorem q149 : (Jvm.Cond.methodLink "BridgeBoard" (101 : Nat) ({ cls := "BridgeBoard", name := "highest", desc := "(I)I" } : Jvm.MethodName)) ∈ lw_all := lw_g (lw_at lw_m1 126 rfl) rfl
theorem q150 : (Jvm.Cond.static ({ cls := "BridgeBoard", name := "highest", desc := "(I)I" } : Jvm.MethodName)) ∈ lw_all := lw_g (lw_at lw_m1 127 rfl) rfl
theorem q151 : (Jvm.Cond.code ({ cls := "BridgeBoard", name := "highest", desc := "(I)I" } : Jvm.MethodName) prog_1_method_16_code (1 : Nat) (Option.some Jvm.ClassFile.FieldType.int)) ∈ lw_all := lw_g (lw_at lw_m1 128 rfl) rfl
theorem q152 : (Jvm.Cond.methodLink "BridgeBoard" (104 : Nat) ({ cls := "BridgeBoard", name := "setFrom", desc := "(II)I" } : Jvm.MethodName)) ∈ lw_all := lw_g (lw_at lw_m1 129 rfl) rfl
theorem q153 : (Jvm.Cond.static ({ cls := "BridgeBoard", name := "setFrom", desc := "(II)I" } : Jvm.MethodName)) ∈ lw_all := lw_g (lw_at lw_m1 130 rfl) rfl
theorem q154 : (Jvm.Cond.code ({ cls := "BridgeBoard", name := "setFrom", desc := "(II)I" } : Jvm.MethodName) prog_1_method_18_code (4 : Nat) (Option.some Jvm.ClassFile.FieldType.int)) ∈ lw_all := lw_g (lw_at lw_m1 131 rfl) rfl
theorem q155 : (Jvm.Cond.methodLink "BridgeBoard" (107 : Nat) ({ cls := "BridgeBoard", name := "restrict", desc := "(III)I" } : Jvm.MethodName)) ∈ lw_all := lw_g (lw_at lw_m1 132 rfl) rfl
theorem q156 : (Jvm.Cond.static ({ cls := "BridgeBoard", name := "restrict", desc := "(III)I" } : Jvm.MethodName)) ∈ lw_all := lw_g (lw_at lw_m1 133 rfl) rfl
theorem q157 : (Jvm.Cond.code ({ cls := "BridgeBoard", name := "restrict", desc := "(III)I" } : Jvm.MethodName) prog_1_method_17_code (3 : Nat) (Option.some Jvm.ClassFile.FieldType.int)) ∈ lw_all := lw_g (lw_at lw_m1 134 rfl) rfl
theorem q158 : (Jvm.Cond.methodLink "BridgeBoard" (89 : Nat) ({ cls := "BridgeBoard", name := "narrowCrossings", desc := "(I)I" } : Jvm.MethodName)) ∈ lw_all := lw_g (lw_at lw_m1 135 rfl) rfl
theorem q159 : (Jvm.Cond.privateMethod ({ cls := "BridgeBoard", name := "narrowCrossings", desc := "(I)I" } : Jvm.MethodName)) ∈ lw_tbl := lw_at lw_m1 136 rfl
theorem q160 : (Jvm.Cond.instanceMethod ({ cls := "BridgeBoard", name := "narrowCrossings", desc := "(I)I" } : Jvm.MethodName)) ∈ lw_all := lw_g (lw_at lw_m1 137 rfl) rfl
theorem q161 : (Jvm.Cond.code ({ cls := "BridgeBoard", name := "narrowCrossings", desc := "(I)I" } : Jvm.MethodName) prog_1_method_23_code (5 : Nat) (Option.some Jvm.ClassFile.FieldType.int)) ∈ lw_all := lw_g (lw_at lw_m1 138 rfl) rfl
theorem q162 : (Jvm.Cond.methodLink "BridgeBoard" (92 : Nat) ({ cls := "BridgeBoard", name := "narrowCuts", desc := "(I)I" } : Jvm.MethodName)) ∈ lw_all := lw_g (lw_at lw_m1 139 rfl) rfl
theorem q163 : (Jvm.Cond.privateMethod ({ cls := "BridgeBoard", name := "narrowCuts", desc := "(I)I" } : Jvm.MethodName)) ∈ lw_tbl := lw_at lw_m1 140 rfl
theorem q164 : (Jvm.Cond.instanceMethod ({ cls := "BridgeBoard", name := "narrowCuts", desc := "(I)I" } : Jvm.MethodName)) ∈ lw_all := lw_g (lw_at lw_m1 141 rfl) rfl
theorem q165 : (Jvm.Cond.code ({ cls := "BridgeBoard", name := "narrowCuts", desc := "(I)I" } : Jvm.MethodName) prog_1_method_24_code (6 : Nat) (Option.some Jvm.ClassFile.FieldType.int)) ∈ lw_all := lw_g (lw_at lw_m1 142 rfl) rfl
theorem q166 : (Jvm.Cond.methodLink "BridgeBoard" (111 : Nat) ({ cls := "BridgeBoard", name := "hangTogether", desc := "(II)Z" } : Jvm.MethodName)) ∈ lw_all := lw_g (lw_at lw_m1 143 rfl) rfl
theorem q167 : (Jvm.Cond.privateMethod ({ cls := "BridgeBoard", name := "hangTogether", desc := "(II)Z" } : Jvm.MethodName)) ∈ lw_tbl := lw_at lw_m1 144 rfl
theorem q168 : (Jvm.Cond.instanceMethod ({ cls := "BridgeBoard", name := "hangTogether", desc := "(II)Z" } : Jvm.MethodName)) ∈ lw_all := lw_g (lw_at lw_m1 145 rfl) rfl
theorem q169 : (Jvm.Cond.code ({ cls := "BridgeBoard", name := "hangTogether", desc := "(II)Z" } : Jvm.MethodName) prog_1_method_25_code (7 : Nat) (Option.some Jvm.ClassFile.FieldType.boolean)) ∈ lw_all := lw_g (lw_at lw_m1 146 rfl) rfl
theorem q170 : (Jvm.Cond.constant "BridgeBoard" (117 : Nat) (60000 : Int32)) ∈ lw_all := lw_g (lw_at lw_m1 147 rfl) rfl
theorem q171 : (Jvm.Cond.methodLink "BridgeBoard" (118 : Nat) ({ cls := "BridgeBoard", name := "firstOpen", desc := "(I)I" } : Jvm.MethodName)) ∈ lw_all := lw_g (lw_at lw_m1 148 rfl) rfl
theorem q172 : (Jvm.Cond.privateMethod ({ cls := "BridgeBoard", name := "firstOpen", desc := "(I)I" } : Jvm.MethodName)) ∈ lw_tbl := lw_at lw_m1 149 rfl
theorem q173 : (Jvm.Cond.instanceMethod ({ cls := "BridgeBoard", name := "firstOpen", desc := "(I)I" } : Jvm.MethodName)) ∈ lw_all := lw_g (lw_at lw_m1 150 rfl) rfl
theorem q174 : (Jvm.Cond.code ({ cls := "BridgeBoard", name := "firstOpen", desc := "(I)I" } : Jvm.MethodName) prog_1_method_27_code (4 : Nat) (Option.some Jvm.ClassFile.FieldType.int)) ∈ lw_all := lw_g (lw_at lw_m1 151 rfl) rfl
theorem q175 : (Jvm.Cond.methodLink "BridgeBoard" (121 : Nat) ({ cls := "BridgeBoard", name := "keep", desc := "(I)V" } : Jvm.MethodName)) ∈ lw_all := lw_g (lw_at lw_m1 152 rfl) rfl
theorem q176 : (Jvm.Cond.privateMethod ({ cls := "BridgeBoard", name := "keep", desc := "(I)V" } : Jvm.MethodName)) ∈ lw_tbl := lw_at lw_m1 153 rfl
theorem q177 : (Jvm.Cond.instanceMethod ({ cls := "BridgeBoard", name := "keep", desc := "(I)V" } : Jvm.MethodName)) ∈ lw_all := lw_g (lw_at lw_m1 154 rfl) rfl
theorem q178 : (Jvm.Cond.code ({ cls := "BridgeBoard", name := "keep", desc := "(I)V" } : Jvm.MethodName) prog_1_method_29_code (4 : Nat) (Option.none : Option Jvm.ClassFile.FieldType)) ∈ lw_all := lw_g (lw_at lw_m1 155 rfl) rfl
theorem q179 : (Jvm.Cond.methodLink "BridgeBoard" (125 : Nat) ({ cls := "BridgeBoard", name := "guess", desc := "(I)Z" } : Jvm.MethodName)) ∈ lw_all := lw_g (lw_at lw_m1 156 rfl) rfl
theorem q180 : (Jvm.Cond.privateMethod ({ cls := "BridgeBoard", name := "guess", desc := "(I)Z" } : Jvm.MethodName)) ∈ lw_tbl := lw_at lw_m1 157 rfl
theorem q181 : (Jvm.Cond.instanceMethod ({ cls := "BridgeBoard", name := "guess", desc := "(I)Z" } : Jvm.MethodName)) ∈ lw_all := lw_g (lw_at lw_m1 158 rfl) rfl
theorem q182 : (Jvm.Cond.code ({ cls := "BridgeBoard", name := "guess", desc := "(I)Z" } : Jvm.MethodName) prog_1_method_28_code (6 : Nat) (Option.some Jvm.ClassFile.FieldType.boolean)) ∈ lw_all := lw_g (lw_at lw_m1 159 rfl) rfl
theorem q184 : (Jvm.Cond.instanceMethod ({ cls := "BridgeBoard", name := "least", desc := "(I)I" } : Jvm.MethodName)) ∈ lw_all := lw_g (lw_at lw_m1 161 rfl) rfl
theorem q185 : (Jvm.Cond.selects "BridgeBoard" ({ cls := "BridgeBoard", name := "least", desc := "(I)I" } : Jvm.MethodName) ({ cls := "BridgeBoard", name := "least", desc := "(I)I" } : Jvm.MethodName)) ∈ lw_all := lw_g (lw_at lw_m1 162 rfl) rfl
theorem q186 : (Jvm.Cond.code ({ cls := "BridgeBoard", name := "least", desc := "(I)I" } : Jvm.MethodName) prog_1_method_8_code (3 : Nat) (Option.some Jvm.ClassFile.FieldType.int)) ∈ lw_all := lw_g (lw_at lw_m1 163 rfl) rfl
theorem q188 : (Jvm.Cond.instanceMethod ({ cls := "BridgeBoard", name := "always", desc := "(I)I" } : Jvm.MethodName)) ∈ lw_all := lw_g (lw_at lw_m1 165 rfl) rfl
theorem q189 : (Jvm.Cond.selects "BridgeBoard" ({ cls := "BridgeBoard", name := "always", desc := "(I)I" } : Jvm.MethodName) ({ cls := "BridgeBoard", name := "always", desc := "(I)I" } : Jvm.MethodName)) ∈ lw_all := lw_g (lw_at lw_m1 166 rfl) rfl
theorem q190 : (Jvm.Cond.code ({ cls := "BridgeBoard", name := "always", desc := "(I)I" } : Jvm.MethodName) prog_1_method_9_code (3 : Nat) (Option.some Jvm.ClassFile.FieldType.int)) ∈ lw_all := lw_g (lw_at lw_m1 167 rfl) rfl
theorem q192 : (Jvm.Cond.instanceMethod ({ cls := "BridgeBoard", name := "with", desc := "(II)I" } : Jvm.MethodName)) ∈ lw_all := lw_g (lw_at lw_m1 169 rfl) rfl
theorem q193 : (Jvm.Cond.selects "BridgeBoard" ({ cls := "BridgeBoard", name := "with", desc := "(II)I" } : Jvm.MethodName) ({ cls := "BridgeBoard", name := "with", desc := "(II)I" } : Jvm.MethodName)) ∈ lw_all := lw_g (lw_at lw_m1 170 rfl) rfl
theorem q194 : (Jvm.Cond.code ({ cls := "BridgeBoard", name := "with", desc := "(II)I" } : Jvm.MethodName) prog_1_method_10_code (3 : Nat) (Option.some Jvm.ClassFile.FieldType.int)) ∈ lw_all := lw_g (lw_at lw_m1 171 rfl) rfl
theorem in_X0 : ∀ w ∈ wsX00, w ∈ lw_all := lw_in wsX00 [59, 61, 63, 65, 67, 69, 71, 73, 75, 77, 79, 81, 83, 85, 87, 89, 91] (by decide +kernel) (by decide +kernel)
end
section
/-! java/lang/Object -/
set_option maxRecDepth 100000
def RJ0 : String := "java/lang/Object"
abbrev cJ0_init : ByteArray := object_method_1_code
def yJ0_init : MethodName := ⟨RJ0, "<init>", "()V"⟩
theorem dJ0_init_0 : decode cJ0_init 0 = .ok (.return_, 1) := by decide +kernel
theorem q32 : (Jvm.Cond.instanceMethod ({ cls := "java/lang/Object", name := "<init>", desc := "()V" } : Jvm.MethodName)) ∈ lw_all := lw_g (lw_at lw_m1 9 rfl) rfl
theorem q33 : (Jvm.Cond.code ({ cls := "java/lang/Object", name := "<init>", desc := "()V" } : Jvm.MethodName) object_method_1_code (1 : Nat) (Option.none : Option Jvm.ClassFile.FieldType)) ∈ lw_all := lw_g (lw_at lw_m1 10 rfl) rfl

theorem q94 : (Jvm.Cond.arrayClass Jvm.ClassFile.FieldType.int) ∈ lw_all := lw_g (lw_at lw_m1 71 rfl) rfl
set_option maxRecDepth 100000
theorem q95 : (Jvm.Cond.arrayClass Jvm.ClassFile.FieldType.long) ∈ lw_all := lw_g (lw_at lw_m1 72 rfl) rfl
theorem q223 : (Jvm.Cond.arrayClass Jvm.ClassFile.FieldType.boolean) ∈ lw_all := lw_g (lw_at lw_m1 200 rfl) rfl

/-! BridgeBoardModel -/
set_option maxRecDepth 100000
def RX1 : String := "BridgeBoardModel"
def TX1 : u_T := fun k => match k with
  | 0 => ("BridgeBoardModel", "number", "[I", true)
  | 1 => ("BridgeBoardModel", "gaps", "I", false)
  | 2 => ("BridgeBoardModel", "near", "[I", true)
  | 3 => ("BridgeBoardModel", "far", "[I", true)
  | 4 => ("BridgeBoardModel", "between", "[J", true)
  | 5 => ("BridgeBoardModel", "bridges", "[I", true)
  | _ => ("BridgeBoardModel", "reached", "[Z", true)
def tyX1 : Nat → FieldType := fun k => match k with
  | 0 => .array .int
  | 1 => .int
  | 2 => .array .int
  | 3 => .array .int
  | 4 => .array .long
  | 5 => .array .int
  | _ => .array .boolean
abbrev wsX10 : List Cond := u_ws RX1 TX1 7
theorem nmX1 : ∀ a, a < 7 → ∀ b, b < 7 → a ≠ b → (TX1 a).2.1 ≠ (TX1 b).2.1 := by decide +kernel
theorem tyX1_ok : ∀ k, k < 7 → parseFieldDescriptor (TX1 k).2.2.1 = some (tyX1 k) := by decide +kernel
abbrev cX1_init : ByteArray := prog_3_method_1_code
def yX1_init : MethodName := ⟨RX1, "<init>", "()V"⟩
theorem dX1_init_0 : decode cX1_init 0 = .ok (.aload_n 0, 1) := by decide +kernel
theorem dX1_init_1 : decode cX1_init 1 = .ok (.invokespecial 1, 3) := by decide +kernel
theorem dX1_init_4 : decode cX1_init 4 = .ok (.aload_n 0, 1) := by decide +kernel
theorem dX1_init_5 : decode cX1_init 5 = .ok (.bipush 36, 2) := by decide +kernel
theorem dX1_init_7 : decode cX1_init 7 = .ok (.newarray .int, 2) := by decide +kernel
theorem dX1_init_9 : decode cX1_init 9 = .ok (.putfield 7, 3) := by decide +kernel
theorem dX1_init_12 : decode cX1_init 12 = .ok (.aload_n 0, 1) := by decide +kernel
theorem dX1_init_13 : decode cX1_init 13 = .ok (.bipush 16, 2) := by decide +kernel
theorem dX1_init_15 : decode cX1_init 15 = .ok (.newarray .int, 2) := by decide +kernel
theorem dX1_init_17 : decode cX1_init 17 = .ok (.putfield 13, 3) := by decide +kernel
theorem dX1_init_20 : decode cX1_init 20 = .ok (.aload_n 0, 1) := by decide +kernel
theorem dX1_init_21 : decode cX1_init 21 = .ok (.bipush 16, 2) := by decide +kernel
theorem dX1_init_23 : decode cX1_init 23 = .ok (.newarray .int, 2) := by decide +kernel
theorem dX1_init_25 : decode cX1_init 25 = .ok (.putfield 16, 3) := by decide +kernel
theorem dX1_init_28 : decode cX1_init 28 = .ok (.aload_n 0, 1) := by decide +kernel
theorem dX1_init_29 : decode cX1_init 29 = .ok (.bipush 16, 2) := by decide +kernel
theorem dX1_init_31 : decode cX1_init 31 = .ok (.newarray .long, 2) := by decide +kernel
theorem dX1_init_33 : decode cX1_init 33 = .ok (.putfield 19, 3) := by decide +kernel
theorem dX1_init_36 : decode cX1_init 36 = .ok (.aload_n 0, 1) := by decide +kernel
theorem dX1_init_37 : decode cX1_init 37 = .ok (.bipush 16, 2) := by decide +kernel
theorem dX1_init_39 : decode cX1_init 39 = .ok (.newarray .int, 2) := by decide +kernel
theorem dX1_init_41 : decode cX1_init 41 = .ok (.putfield 23, 3) := by decide +kernel
theorem dX1_init_44 : decode cX1_init 44 = .ok (.aload_n 0, 1) := by decide +kernel
theorem dX1_init_45 : decode cX1_init 45 = .ok (.bipush 36, 2) := by decide +kernel
theorem dX1_init_47 : decode cX1_init 47 = .ok (.newarray .boolean, 2) := by decide +kernel
theorem dX1_init_49 : decode cX1_init 49 = .ok (.putfield 26, 3) := by decide +kernel
theorem dX1_init_52 : decode cX1_init 52 = .ok (.return_, 1) := by decide +kernel
abbrev cX1_place : ByteArray := prog_3_method_4_code
def yX1_place : MethodName := ⟨RX1, "place", "(III)I"⟩
theorem dX1_place_0 : decode cX1_place 0 = .ok (.iload_n 1, 1) := by decide +kernel
theorem dX1_place_1 : decode cX1_place 1 = .ok (.iload_n 2, 1) := by decide +kernel
theorem dX1_place_2 : decode cX1_place 2 = .ok (.invokestatic 30, 3) := by decide +kernel
theorem dX1_place_5 : decode cX1_place 5 = .ok (.ifCond .ne 14, 3) := by decide +kernel
theorem dX1_place_8 : decode cX1_place 8 = .ok (.iload_n 3, 1) := by decide +kernel
theorem dX1_place_9 : decode cX1_place 9 = .ok (.iconst 1, 1) := by decide +kernel
theorem dX1_place_10 : decode cX1_place 10 = .ok (.if_icmp .lt 9, 3) := by decide +kernel
theorem dX1_place_13 : decode cX1_place 13 = .ok (.iload_n 3, 1) := by decide +kernel
theorem dX1_place_14 : decode cX1_place 14 = .ok (.bipush 8, 2) := by decide +kernel
theorem dX1_place_16 : decode cX1_place 16 = .ok (.if_icmp .le 5, 3) := by decide +kernel
theorem dX1_place_19 : decode cX1_place 19 = .ok (.iconst (-1), 1) := by decide +kernel
theorem dX1_place_20 : decode cX1_place 20 = .ok (.ireturn, 1) := by decide +kernel
theorem dX1_place_21 : decode cX1_place 21 = .ok (.aload_n 0, 1) := by decide +kernel
theorem dX1_place_22 : decode cX1_place 22 = .ok (.getfield 7, 3) := by decide +kernel
theorem dX1_place_25 : decode cX1_place 25 = .ok (.bipush 6, 2) := by decide +kernel
theorem dX1_place_27 : decode cX1_place 27 = .ok (.iload_n 1, 1) := by decide +kernel
theorem dX1_place_28 : decode cX1_place 28 = .ok (.imul, 1) := by decide +kernel
theorem dX1_place_29 : decode cX1_place 29 = .ok (.iload_n 2, 1) := by decide +kernel
theorem dX1_place_30 : decode cX1_place 30 = .ok (.iadd, 1) := by decide +kernel
theorem dX1_place_31 : decode cX1_place 31 = .ok (.iaload, 1) := by decide +kernel
theorem dX1_place_32 : decode cX1_place 32 = .ok (.ifCond .ne 14, 3) := by decide +kernel
theorem dX1_place_35 : decode cX1_place 35 = .ok (.aload_n 0, 1) := by decide +kernel
theorem dX1_place_36 : decode cX1_place 36 = .ok (.invokevirtual 34, 3) := by decide +kernel
theorem dX1_place_39 : decode cX1_place 39 = .ok (.bipush 7, 2) := by decide +kernel
theorem dX1_place_41 : decode cX1_place 41 = .ok (.if_icmp .ne 5, 3) := by decide +kernel
theorem dX1_place_44 : decode cX1_place 44 = .ok (.iconst (-1), 1) := by decide +kernel
theorem dX1_place_45 : decode cX1_place 45 = .ok (.ireturn, 1) := by decide +kernel
theorem dX1_place_46 : decode cX1_place 46 = .ok (.aload_n 0, 1) := by decide +kernel
theorem dX1_place_47 : decode cX1_place 47 = .ok (.getfield 7, 3) := by decide +kernel
theorem dX1_place_50 : decode cX1_place 50 = .ok (.bipush 6, 2) := by decide +kernel
theorem dX1_place_52 : decode cX1_place 52 = .ok (.iload_n 1, 1) := by decide +kernel
theorem dX1_place_53 : decode cX1_place 53 = .ok (.imul, 1) := by decide +kernel
theorem dX1_place_54 : decode cX1_place 54 = .ok (.iload_n 2, 1) := by decide +kernel
theorem dX1_place_55 : decode cX1_place 55 = .ok (.iadd, 1) := by decide +kernel
theorem dX1_place_56 : decode cX1_place 56 = .ok (.iload_n 3, 1) := by decide +kernel
theorem dX1_place_57 : decode cX1_place 57 = .ok (.iastore, 1) := by decide +kernel
theorem dX1_place_58 : decode cX1_place 58 = .ok (.aload_n 0, 1) := by decide +kernel
theorem dX1_place_59 : decode cX1_place 59 = .ok (.invokevirtual 34, 3) := by decide +kernel
theorem dX1_place_62 : decode cX1_place 62 = .ok (.ireturn, 1) := by decide +kernel
abbrev cX1_off : ByteArray := prog_3_method_2_code
def yX1_off : MethodName := ⟨RX1, "off", "(II)Z"⟩
theorem dX1_off_0 : decode cX1_off 0 = .ok (.iload_n 0, 1) := by decide +kernel
theorem dX1_off_1 : decode cX1_off 1 = .ok (.ifCond .lt 17, 3) := by decide +kernel
theorem dX1_off_4 : decode cX1_off 4 = .ok (.iload_n 0, 1) := by decide +kernel
theorem dX1_off_5 : decode cX1_off 5 = .ok (.iconst 5, 1) := by decide +kernel
theorem dX1_off_6 : decode cX1_off 6 = .ok (.if_icmp .gt 12, 3) := by decide +kernel
theorem dX1_off_9 : decode cX1_off 9 = .ok (.iload_n 1, 1) := by decide +kernel
theorem dX1_off_10 : decode cX1_off 10 = .ok (.ifCond .lt 8, 3) := by decide +kernel
theorem dX1_off_13 : decode cX1_off 13 = .ok (.iload_n 1, 1) := by decide +kernel
theorem dX1_off_14 : decode cX1_off 14 = .ok (.iconst 5, 1) := by decide +kernel
theorem dX1_off_15 : decode cX1_off 15 = .ok (.if_icmp .le 7, 3) := by decide +kernel
theorem dX1_off_18 : decode cX1_off 18 = .ok (.iconst 1, 1) := by decide +kernel
theorem dX1_off_19 : decode cX1_off 19 = .ok (.goto 4, 3) := by decide +kernel
theorem dX1_off_22 : decode cX1_off 22 = .ok (.iconst 0, 1) := by decide +kernel
theorem dX1_off_23 : decode cX1_off 23 = .ok (.ireturn, 1) := by decide +kernel
abbrev cX1_held : ByteArray := prog_3_method_3_code
def yX1_held : MethodName := ⟨RX1, "held", "()I"⟩
theorem dX1_held_0 : decode cX1_held 0 = .ok (.iconst 0, 1) := by decide +kernel
theorem dX1_held_1 : decode cX1_held 1 = .ok (.istore_n 1, 1) := by decide +kernel
theorem dX1_held_2 : decode cX1_held 2 = .ok (.iconst 0, 1) := by decide +kernel
theorem dX1_held_3 : decode cX1_held 3 = .ok (.istore_n 2, 1) := by decide +kernel
theorem dX1_held_4 : decode cX1_held 4 = .ok (.iload_n 2, 1) := by decide +kernel
theorem dX1_held_5 : decode cX1_held 5 = .ok (.bipush 36, 2) := by decide +kernel
theorem dX1_held_7 : decode cX1_held 7 = .ok (.if_icmp .ge 21, 3) := by decide +kernel
theorem dX1_held_10 : decode cX1_held 10 = .ok (.aload_n 0, 1) := by decide +kernel
theorem dX1_held_11 : decode cX1_held 11 = .ok (.getfield 7, 3) := by decide +kernel
theorem dX1_held_14 : decode cX1_held 14 = .ok (.iload_n 2, 1) := by decide +kernel
theorem dX1_held_15 : decode cX1_held 15 = .ok (.iaload, 1) := by decide +kernel
theorem dX1_held_16 : decode cX1_held 16 = .ok (.ifCond .le 6, 3) := by decide +kernel
theorem dX1_held_19 : decode cX1_held 19 = .ok (.iinc 1 1, 3) := by decide +kernel
theorem dX1_held_22 : decode cX1_held 22 = .ok (.iinc 2 1, 3) := by decide +kernel
theorem dX1_held_25 : decode cX1_held 25 = .ok (.goto (-21), 3) := by decide +kernel
theorem dX1_held_28 : decode cX1_held 28 = .ok (.iload_n 1, 1) := by decide +kernel
theorem dX1_held_29 : decode cX1_held 29 = .ok (.ireturn, 1) := by decide +kernel
abbrev cX1_remove : ByteArray := prog_3_method_5_code
def yX1_remove : MethodName := ⟨RX1, "remove", "(II)I"⟩
theorem dX1_remove_0 : decode cX1_remove 0 = .ok (.iload_n 1, 1) := by decide +kernel
theorem dX1_remove_1 : decode cX1_remove 1 = .ok (.iload_n 2, 1) := by decide +kernel
theorem dX1_remove_2 : decode cX1_remove 2 = .ok (.invokestatic 30, 3) := by decide +kernel
theorem dX1_remove_5 : decode cX1_remove 5 = .ok (.ifCond .ne 17, 3) := by decide +kernel
theorem dX1_remove_8 : decode cX1_remove 8 = .ok (.aload_n 0, 1) := by decide +kernel
theorem dX1_remove_9 : decode cX1_remove 9 = .ok (.getfield 7, 3) := by decide +kernel
theorem dX1_remove_12 : decode cX1_remove 12 = .ok (.bipush 6, 2) := by decide +kernel
theorem dX1_remove_14 : decode cX1_remove 14 = .ok (.iload_n 1, 1) := by decide +kernel
theorem dX1_remove_15 : decode cX1_remove 15 = .ok (.imul, 1) := by decide +kernel
theorem dX1_remove_16 : decode cX1_remove 16 = .ok (.iload_n 2, 1) := by decide +kernel
theorem dX1_remove_17 : decode cX1_remove 17 = .ok (.iadd, 1) := by decide +kernel
theorem dX1_remove_18 : decode cX1_remove 18 = .ok (.iaload, 1) := by decide +kernel
theorem dX1_remove_19 : decode cX1_remove 19 = .ok (.ifCond .ne 5, 3) := by decide +kernel
theorem dX1_remove_22 : decode cX1_remove 22 = .ok (.iconst (-1), 1) := by decide +kernel
theorem dX1_remove_23 : decode cX1_remove 23 = .ok (.ireturn, 1) := by decide +kernel
theorem dX1_remove_24 : decode cX1_remove 24 = .ok (.aload_n 0, 1) := by decide +kernel
theorem dX1_remove_25 : decode cX1_remove 25 = .ok (.getfield 7, 3) := by decide +kernel
theorem dX1_remove_28 : decode cX1_remove 28 = .ok (.bipush 6, 2) := by decide +kernel
theorem dX1_remove_30 : decode cX1_remove 30 = .ok (.iload_n 1, 1) := by decide +kernel
theorem dX1_remove_31 : decode cX1_remove 31 = .ok (.imul, 1) := by decide +kernel
theorem dX1_remove_32 : decode cX1_remove 32 = .ok (.iload_n 2, 1) := by decide +kernel
theorem dX1_remove_33 : decode cX1_remove 33 = .ok (.iadd, 1) := by decide +kernel
theorem dX1_remove_34 : decode cX1_remove 34 = .ok (.iconst 0, 1) := by decide +kernel
theorem dX1_remove_35 : decode cX1_remove 35 = .ok (.iastore, 1) := by decide +kernel
theorem dX1_remove_36 : decode cX1_remove 36 = .ok (.aload_n 0, 1) := by decide +kernel
theorem dX1_remove_37 : decode cX1_remove 37 = .ok (.invokevirtual 34, 3) := by decide +kernel
theorem dX1_remove_40 : decode cX1_remove 40 = .ok (.ireturn, 1) := by decide +kernel
abbrev cX1_island : ByteArray := prog_3_method_6_code
def yX1_island : MethodName := ⟨RX1, "island", "(II)I"⟩
theorem dX1_island_0 : decode cX1_island 0 = .ok (.iload_n 1, 1) := by decide +kernel
theorem dX1_island_1 : decode cX1_island 1 = .ok (.iload_n 2, 1) := by decide +kernel
theorem dX1_island_2 : decode cX1_island 2 = .ok (.invokestatic 30, 3) := by decide +kernel
theorem dX1_island_5 : decode cX1_island 5 = .ok (.ifCond .eq 7, 3) := by decide +kernel
theorem dX1_island_8 : decode cX1_island 8 = .ok (.iconst (-1), 1) := by decide +kernel
theorem dX1_island_9 : decode cX1_island 9 = .ok (.goto 14, 3) := by decide +kernel
theorem dX1_island_12 : decode cX1_island 12 = .ok (.aload_n 0, 1) := by decide +kernel
theorem dX1_island_13 : decode cX1_island 13 = .ok (.getfield 7, 3) := by decide +kernel
theorem dX1_island_16 : decode cX1_island 16 = .ok (.bipush 6, 2) := by decide +kernel
theorem dX1_island_18 : decode cX1_island 18 = .ok (.iload_n 1, 1) := by decide +kernel
theorem dX1_island_19 : decode cX1_island 19 = .ok (.imul, 1) := by decide +kernel
theorem dX1_island_20 : decode cX1_island 20 = .ok (.iload_n 2, 1) := by decide +kernel
theorem dX1_island_21 : decode cX1_island 21 = .ok (.iadd, 1) := by decide +kernel
theorem dX1_island_22 : decode cX1_island 22 = .ok (.iaload, 1) := by decide +kernel
theorem dX1_island_23 : decode cX1_island 23 = .ok (.ireturn, 1) := by decide +kernel
abbrev cX1_gaps : ByteArray := prog_3_method_9_code
def yX1_gaps : MethodName := ⟨RX1, "gaps", "()I"⟩
theorem dX1_gaps_0 : decode cX1_gaps 0 = .ok (.aload_n 0, 1) := by decide +kernel
theorem dX1_gaps_1 : decode cX1_gaps 1 = .ok (.invokevirtual 46, 3) := by decide +kernel
theorem dX1_gaps_4 : decode cX1_gaps 4 = .ok (.aload_n 0, 1) := by decide +kernel
theorem dX1_gaps_5 : decode cX1_gaps 5 = .ok (.getfield 38, 3) := by decide +kernel
theorem dX1_gaps_8 : decode cX1_gaps 8 = .ok (.ireturn, 1) := by decide +kernel
abbrev cX1_survey : ByteArray := prog_3_method_8_code
def yX1_survey : MethodName := ⟨RX1, "survey", "()V"⟩
theorem dX1_survey_0 : decode cX1_survey 0 = .ok (.aload_n 0, 1) := by decide +kernel
theorem dX1_survey_1 : decode cX1_survey 1 = .ok (.iconst 0, 1) := by decide +kernel
theorem dX1_survey_2 : decode cX1_survey 2 = .ok (.putfield 38, 3) := by decide +kernel
theorem dX1_survey_5 : decode cX1_survey 5 = .ok (.iconst 0, 1) := by decide +kernel
theorem dX1_survey_6 : decode cX1_survey 6 = .ok (.istore_n 1, 1) := by decide +kernel
theorem dX1_survey_7 : decode cX1_survey 7 = .ok (.iload_n 1, 1) := by decide +kernel
theorem dX1_survey_8 : decode cX1_survey 8 = .ok (.bipush 36, 2) := by decide +kernel
theorem dX1_survey_10 : decode cX1_survey 10 = .ok (.if_icmp .ge 43, 3) := by decide +kernel
theorem dX1_survey_13 : decode cX1_survey 13 = .ok (.aload_n 0, 1) := by decide +kernel
theorem dX1_survey_14 : decode cX1_survey 14 = .ok (.getfield 7, 3) := by decide +kernel
theorem dX1_survey_17 : decode cX1_survey 17 = .ok (.iload_n 1, 1) := by decide +kernel
theorem dX1_survey_18 : decode cX1_survey 18 = .ok (.iaload, 1) := by decide +kernel
theorem dX1_survey_19 : decode cX1_survey 19 = .ok (.ifCond .le 28, 3) := by decide +kernel
theorem dX1_survey_22 : decode cX1_survey 22 = .ok (.aload_n 0, 1) := by decide +kernel
theorem dX1_survey_23 : decode cX1_survey 23 = .ok (.iload_n 1, 1) := by decide +kernel
theorem dX1_survey_24 : decode cX1_survey 24 = .ok (.iconst 1, 1) := by decide +kernel
theorem dX1_survey_25 : decode cX1_survey 25 = .ok (.iconst 5, 1) := by decide +kernel
theorem dX1_survey_26 : decode cX1_survey 26 = .ok (.iload_n 1, 1) := by decide +kernel
theorem dX1_survey_27 : decode cX1_survey 27 = .ok (.bipush 6, 2) := by decide +kernel
theorem dX1_survey_29 : decode cX1_survey 29 = .ok (.irem, 1) := by decide +kernel
theorem dX1_survey_30 : decode cX1_survey 30 = .ok (.isub, 1) := by decide +kernel
theorem dX1_survey_31 : decode cX1_survey 31 = .ok (.invokevirtual 42, 3) := by decide +kernel
theorem dX1_survey_34 : decode cX1_survey 34 = .ok (.aload_n 0, 1) := by decide +kernel
theorem dX1_survey_35 : decode cX1_survey 35 = .ok (.iload_n 1, 1) := by decide +kernel
theorem dX1_survey_36 : decode cX1_survey 36 = .ok (.bipush 6, 2) := by decide +kernel
theorem dX1_survey_38 : decode cX1_survey 38 = .ok (.iconst 5, 1) := by decide +kernel
theorem dX1_survey_39 : decode cX1_survey 39 = .ok (.iload_n 1, 1) := by decide +kernel
theorem dX1_survey_40 : decode cX1_survey 40 = .ok (.bipush 6, 2) := by decide +kernel
theorem dX1_survey_42 : decode cX1_survey 42 = .ok (.idiv, 1) := by decide +kernel
theorem dX1_survey_43 : decode cX1_survey 43 = .ok (.isub, 1) := by decide +kernel
theorem dX1_survey_44 : decode cX1_survey 44 = .ok (.invokevirtual 42, 3) := by decide +kernel
theorem dX1_survey_47 : decode cX1_survey 47 = .ok (.iinc 1 1, 3) := by decide +kernel
theorem dX1_survey_50 : decode cX1_survey 50 = .ok (.goto (-43), 3) := by decide +kernel
theorem dX1_survey_53 : decode cX1_survey 53 = .ok (.return_, 1) := by decide +kernel
abbrev cX1_look : ByteArray := prog_3_method_7_code
def yX1_look : MethodName := ⟨RX1, "look", "(III)V"⟩
theorem dX1_look_0 : decode cX1_look 0 = .ok (.lconst 0, 1) := by decide +kernel
theorem dX1_look_1 : decode cX1_look 1 = .ok (.lstore 4, 2) := by decide +kernel
theorem dX1_look_3 : decode cX1_look 3 = .ok (.iload_n 1, 1) := by decide +kernel
theorem dX1_look_4 : decode cX1_look 4 = .ok (.istore 6, 2) := by decide +kernel
theorem dX1_look_6 : decode cX1_look 6 = .ok (.iconst 0, 1) := by decide +kernel
theorem dX1_look_7 : decode cX1_look 7 = .ok (.istore 7, 2) := by decide +kernel
theorem dX1_look_9 : decode cX1_look 9 = .ok (.iload 7, 2) := by decide +kernel
theorem dX1_look_11 : decode cX1_look 11 = .ok (.iload_n 3, 1) := by decide +kernel
theorem dX1_look_12 : decode cX1_look 12 = .ok (.if_icmp .ge 94, 3) := by decide +kernel
theorem dX1_look_15 : decode cX1_look 15 = .ok (.iload 6, 2) := by decide +kernel
theorem dX1_look_17 : decode cX1_look 17 = .ok (.iload_n 2, 1) := by decide +kernel
theorem dX1_look_18 : decode cX1_look 18 = .ok (.iadd, 1) := by decide +kernel
theorem dX1_look_19 : decode cX1_look 19 = .ok (.istore 6, 2) := by decide +kernel
theorem dX1_look_21 : decode cX1_look 21 = .ok (.iload 6, 2) := by decide +kernel
theorem dX1_look_23 : decode cX1_look 23 = .ok (.bipush 35, 2) := by decide +kernel
theorem dX1_look_25 : decode cX1_look 25 = .ok (.if_icmp .le 4, 3) := by decide +kernel
theorem dX1_look_28 : decode cX1_look 28 = .ok (.return_, 1) := by decide +kernel
theorem dX1_look_29 : decode cX1_look 29 = .ok (.aload_n 0, 1) := by decide +kernel
theorem dX1_look_30 : decode cX1_look 30 = .ok (.getfield 7, 3) := by decide +kernel
theorem dX1_look_33 : decode cX1_look 33 = .ok (.iload 6, 2) := by decide +kernel
theorem dX1_look_35 : decode cX1_look 35 = .ok (.iaload, 1) := by decide +kernel
theorem dX1_look_36 : decode cX1_look 36 = .ok (.ifCond .le 55, 3) := by decide +kernel
theorem dX1_look_39 : decode cX1_look 39 = .ok (.aload_n 0, 1) := by decide +kernel
theorem dX1_look_40 : decode cX1_look 40 = .ok (.getfield 38, 3) := by decide +kernel
theorem dX1_look_43 : decode cX1_look 43 = .ok (.bipush 16, 2) := by decide +kernel
theorem dX1_look_45 : decode cX1_look 45 = .ok (.if_icmp .ge 45, 3) := by decide +kernel
theorem dX1_look_48 : decode cX1_look 48 = .ok (.aload_n 0, 1) := by decide +kernel
theorem dX1_look_49 : decode cX1_look 49 = .ok (.getfield 13, 3) := by decide +kernel
theorem dX1_look_52 : decode cX1_look 52 = .ok (.aload_n 0, 1) := by decide +kernel
theorem dX1_look_53 : decode cX1_look 53 = .ok (.getfield 38, 3) := by decide +kernel
theorem dX1_look_56 : decode cX1_look 56 = .ok (.iload_n 1, 1) := by decide +kernel
theorem dX1_look_57 : decode cX1_look 57 = .ok (.iastore, 1) := by decide +kernel
theorem dX1_look_58 : decode cX1_look 58 = .ok (.aload_n 0, 1) := by decide +kernel
theorem dX1_look_59 : decode cX1_look 59 = .ok (.getfield 16, 3) := by decide +kernel
theorem dX1_look_62 : decode cX1_look 62 = .ok (.aload_n 0, 1) := by decide +kernel
theorem dX1_look_63 : decode cX1_look 63 = .ok (.getfield 38, 3) := by decide +kernel
theorem dX1_look_66 : decode cX1_look 66 = .ok (.iload 6, 2) := by decide +kernel
theorem dX1_look_68 : decode cX1_look 68 = .ok (.iastore, 1) := by decide +kernel
theorem dX1_look_69 : decode cX1_look 69 = .ok (.aload_n 0, 1) := by decide +kernel
theorem dX1_look_70 : decode cX1_look 70 = .ok (.getfield 19, 3) := by decide +kernel
theorem dX1_look_73 : decode cX1_look 73 = .ok (.aload_n 0, 1) := by decide +kernel
theorem dX1_look_74 : decode cX1_look 74 = .ok (.getfield 38, 3) := by decide +kernel
theorem dX1_look_77 : decode cX1_look 77 = .ok (.lload 4, 2) := by decide +kernel
theorem dX1_look_79 : decode cX1_look 79 = .ok (.lastore, 1) := by decide +kernel
theorem dX1_look_80 : decode cX1_look 80 = .ok (.aload_n 0, 1) := by decide +kernel
theorem dX1_look_81 : decode cX1_look 81 = .ok (.dup, 1) := by decide +kernel
theorem dX1_look_82 : decode cX1_look 82 = .ok (.getfield 38, 3) := by decide +kernel
theorem dX1_look_85 : decode cX1_look 85 = .ok (.iconst 1, 1) := by decide +kernel
theorem dX1_look_86 : decode cX1_look 86 = .ok (.iadd, 1) := by decide +kernel
theorem dX1_look_87 : decode cX1_look 87 = .ok (.putfield 38, 3) := by decide +kernel
theorem dX1_look_90 : decode cX1_look 90 = .ok (.return_, 1) := by decide +kernel
theorem dX1_look_91 : decode cX1_look 91 = .ok (.lload 4, 2) := by decide +kernel
theorem dX1_look_93 : decode cX1_look 93 = .ok (.lconst 1, 1) := by decide +kernel
theorem dX1_look_94 : decode cX1_look 94 = .ok (.iload 6, 2) := by decide +kernel
theorem dX1_look_96 : decode cX1_look 96 = .ok (.lshl, 1) := by decide +kernel
theorem dX1_look_97 : decode cX1_look 97 = .ok (.lor, 1) := by decide +kernel
theorem dX1_look_98 : decode cX1_look 98 = .ok (.lstore 4, 2) := by decide +kernel
theorem dX1_look_100 : decode cX1_look 100 = .ok (.iinc 7 1, 3) := by decide +kernel
theorem dX1_look_103 : decode cX1_look 103 = .ok (.goto (-94), 3) := by decide +kernel
theorem dX1_look_106 : decode cX1_look 106 = .ok (.return_, 1) := by decide +kernel
abbrev cX1_end : ByteArray := prog_3_method_10_code
def yX1_end : MethodName := ⟨RX1, "end", "(IZ)I"⟩
theorem dX1_end_0 : decode cX1_end 0 = .ok (.aload_n 0, 1) := by decide +kernel
theorem dX1_end_1 : decode cX1_end 1 = .ok (.invokevirtual 46, 3) := by decide +kernel
theorem dX1_end_4 : decode cX1_end 4 = .ok (.iload_n 1, 1) := by decide +kernel
theorem dX1_end_5 : decode cX1_end 5 = .ok (.ifCond .lt 11, 3) := by decide +kernel
theorem dX1_end_8 : decode cX1_end 8 = .ok (.iload_n 1, 1) := by decide +kernel
theorem dX1_end_9 : decode cX1_end 9 = .ok (.aload_n 0, 1) := by decide +kernel
theorem dX1_end_10 : decode cX1_end 10 = .ok (.getfield 38, 3) := by decide +kernel
theorem dX1_end_13 : decode cX1_end 13 = .ok (.if_icmp .lt 5, 3) := by decide +kernel
theorem dX1_end_16 : decode cX1_end 16 = .ok (.iconst (-1), 1) := by decide +kernel
theorem dX1_end_17 : decode cX1_end 17 = .ok (.ireturn, 1) := by decide +kernel
theorem dX1_end_18 : decode cX1_end 18 = .ok (.iload_n 2, 1) := by decide +kernel
theorem dX1_end_19 : decode cX1_end 19 = .ok (.ifCond .eq 12, 3) := by decide +kernel
theorem dX1_end_22 : decode cX1_end 22 = .ok (.aload_n 0, 1) := by decide +kernel
theorem dX1_end_23 : decode cX1_end 23 = .ok (.getfield 16, 3) := by decide +kernel
theorem dX1_end_26 : decode cX1_end 26 = .ok (.iload_n 1, 1) := by decide +kernel
theorem dX1_end_27 : decode cX1_end 27 = .ok (.iaload, 1) := by decide +kernel
theorem dX1_end_28 : decode cX1_end 28 = .ok (.goto 9, 3) := by decide +kernel
theorem dX1_end_31 : decode cX1_end 31 = .ok (.aload_n 0, 1) := by decide +kernel
theorem dX1_end_32 : decode cX1_end 32 = .ok (.getfield 13, 3) := by decide +kernel
theorem dX1_end_35 : decode cX1_end 35 = .ok (.iload_n 1, 1) := by decide +kernel
theorem dX1_end_36 : decode cX1_end 36 = .ok (.iaload, 1) := by decide +kernel
theorem dX1_end_37 : decode cX1_end 37 = .ok (.ireturn, 1) := by decide +kernel
abbrev cX1_solutions : ByteArray := prog_3_method_18_code
def yX1_solutions : MethodName := ⟨RX1, "solutions", "()I"⟩
theorem dX1_solutions_0 : decode cX1_solutions 0 = .ok (.aload_n 0, 1) := by decide +kernel
theorem dX1_solutions_1 : decode cX1_solutions 1 = .ok (.invokevirtual 46, 3) := by decide +kernel
theorem dX1_solutions_4 : decode cX1_solutions 4 = .ok (.aload_n 0, 1) := by decide +kernel
theorem dX1_solutions_5 : decode cX1_solutions 5 = .ok (.getfield 38, 3) := by decide +kernel
theorem dX1_solutions_8 : decode cX1_solutions 8 = .ok (.bipush 8, 2) := by decide +kernel
theorem dX1_solutions_10 : decode cX1_solutions 10 = .ok (.if_icmp .le 8, 3) := by decide +kernel
theorem dX1_solutions_13 : decode cX1_solutions 13 = .ok (.bipush (-2), 2) := by decide +kernel
theorem dX1_solutions_15 : decode cX1_solutions 15 = .ok (.goto 9, 3) := by decide +kernel
theorem dX1_solutions_18 : decode cX1_solutions 18 = .ok (.aload_n 0, 1) := by decide +kernel
theorem dX1_solutions_19 : decode cX1_solutions 19 = .ok (.iconst (-1), 1) := by decide +kernel
theorem dX1_solutions_20 : decode cX1_solutions 20 = .ok (.iconst 0, 1) := by decide +kernel
theorem dX1_solutions_21 : decode cX1_solutions 21 = .ok (.invokevirtual 68, 3) := by decide +kernel
theorem dX1_solutions_24 : decode cX1_solutions 24 = .ok (.ireturn, 1) := by decide +kernel
abbrev cX1_count : ByteArray := prog_3_method_17_code
def yX1_count : MethodName := ⟨RX1, "count", "(II)I"⟩
theorem dX1_count_0 : decode cX1_count 0 = .ok (.aload_n 0, 1) := by decide +kernel
theorem dX1_count_1 : decode cX1_count 1 = .ok (.invokevirtual 59, 3) := by decide +kernel
theorem dX1_count_4 : decode cX1_count 4 = .ok (.iconst 0, 1) := by decide +kernel
theorem dX1_count_5 : decode cX1_count 5 = .ok (.istore_n 3, 1) := by decide +kernel
theorem dX1_count_6 : decode cX1_count 6 = .ok (.iconst 1, 1) := by decide +kernel
theorem dX1_count_7 : decode cX1_count 7 = .ok (.istore 4, 2) := by decide +kernel
theorem dX1_count_9 : decode cX1_count 9 = .ok (.iconst 0, 1) := by decide +kernel
theorem dX1_count_10 : decode cX1_count 10 = .ok (.istore 5, 2) := by decide +kernel
theorem dX1_count_12 : decode cX1_count 12 = .ok (.iload 5, 2) := by decide +kernel
theorem dX1_count_14 : decode cX1_count 14 = .ok (.sipush 6561, 3) := by decide +kernel
theorem dX1_count_17 : decode cX1_count 17 = .ok (.if_icmp .ge 44, 3) := by decide +kernel
theorem dX1_count_20 : decode cX1_count 20 = .ok (.iload 4, 2) := by decide +kernel
theorem dX1_count_22 : decode cX1_count 22 = .ok (.ifCond .eq 39, 3) := by decide +kernel
theorem dX1_count_25 : decode cX1_count 25 = .ok (.iload_n 1, 1) := by decide +kernel
theorem dX1_count_26 : decode cX1_count 26 = .ok (.ifCond .lt 13, 3) := by decide +kernel
theorem dX1_count_29 : decode cX1_count 29 = .ok (.aload_n 0, 1) := by decide +kernel
theorem dX1_count_30 : decode cX1_count 30 = .ok (.getfield 23, 3) := by decide +kernel
theorem dX1_count_33 : decode cX1_count 33 = .ok (.iload_n 1, 1) := by decide +kernel
theorem dX1_count_34 : decode cX1_count 34 = .ok (.iaload, 1) := by decide +kernel
theorem dX1_count_35 : decode cX1_count 35 = .ok (.iload_n 2, 1) := by decide +kernel
theorem dX1_count_36 : decode cX1_count 36 = .ok (.if_icmp .ne 13, 3) := by decide +kernel
theorem dX1_count_39 : decode cX1_count 39 = .ok (.aload_n 0, 1) := by decide +kernel
theorem dX1_count_40 : decode cX1_count 40 = .ok (.invokevirtual 62, 3) := by decide +kernel
theorem dX1_count_43 : decode cX1_count 43 = .ok (.ifCond .eq 6, 3) := by decide +kernel
theorem dX1_count_46 : decode cX1_count 46 = .ok (.iinc 3 1, 3) := by decide +kernel
theorem dX1_count_49 : decode cX1_count 49 = .ok (.aload_n 0, 1) := by decide +kernel
theorem dX1_count_50 : decode cX1_count 50 = .ok (.invokevirtual 65, 3) := by decide +kernel
theorem dX1_count_53 : decode cX1_count 53 = .ok (.istore 4, 2) := by decide +kernel
theorem dX1_count_55 : decode cX1_count 55 = .ok (.iinc 5 1, 3) := by decide +kernel
theorem dX1_count_58 : decode cX1_count 58 = .ok (.goto (-46), 3) := by decide +kernel
theorem dX1_count_61 : decode cX1_count 61 = .ok (.iload_n 3, 1) := by decide +kernel
theorem dX1_count_62 : decode cX1_count 62 = .ok (.ireturn, 1) := by decide +kernel
abbrev cX1_begin : ByteArray := prog_3_method_15_code
def yX1_begin : MethodName := ⟨RX1, "begin", "()V"⟩
theorem dX1_begin_0 : decode cX1_begin 0 = .ok (.iconst 0, 1) := by decide +kernel
theorem dX1_begin_1 : decode cX1_begin 1 = .ok (.istore_n 1, 1) := by decide +kernel
theorem dX1_begin_2 : decode cX1_begin 2 = .ok (.iload_n 1, 1) := by decide +kernel
theorem dX1_begin_3 : decode cX1_begin 3 = .ok (.bipush 16, 2) := by decide +kernel
theorem dX1_begin_5 : decode cX1_begin 5 = .ok (.if_icmp .ge 16, 3) := by decide +kernel
theorem dX1_begin_8 : decode cX1_begin 8 = .ok (.aload_n 0, 1) := by decide +kernel
theorem dX1_begin_9 : decode cX1_begin 9 = .ok (.getfield 23, 3) := by decide +kernel
theorem dX1_begin_12 : decode cX1_begin 12 = .ok (.iload_n 1, 1) := by decide +kernel
theorem dX1_begin_13 : decode cX1_begin 13 = .ok (.iconst 0, 1) := by decide +kernel
theorem dX1_begin_14 : decode cX1_begin 14 = .ok (.iastore, 1) := by decide +kernel
theorem dX1_begin_15 : decode cX1_begin 15 = .ok (.iinc 1 1, 3) := by decide +kernel
theorem dX1_begin_18 : decode cX1_begin 18 = .ok (.goto (-16), 3) := by decide +kernel
theorem dX1_begin_21 : decode cX1_begin 21 = .ok (.return_, 1) := by decide +kernel
abbrev cX1_solves : ByteArray := prog_3_method_14_code
def yX1_solves : MethodName := ⟨RX1, "solves", "()Z"⟩
theorem dX1_solves_0 : decode cX1_solves 0 = .ok (.aload_n 0, 1) := by decide +kernel
theorem dX1_solves_1 : decode cX1_solves 1 = .ok (.invokevirtual 49, 3) := by decide +kernel
theorem dX1_solves_4 : decode cX1_solves 4 = .ok (.ifCond .eq 21, 3) := by decide +kernel
theorem dX1_solves_7 : decode cX1_solves 7 = .ok (.aload_n 0, 1) := by decide +kernel
theorem dX1_solves_8 : decode cX1_solves 8 = .ok (.invokevirtual 53, 3) := by decide +kernel
theorem dX1_solves_11 : decode cX1_solves 11 = .ok (.ifCond .eq 14, 3) := by decide +kernel
theorem dX1_solves_14 : decode cX1_solves 14 = .ok (.aload_n 0, 1) := by decide +kernel
theorem dX1_solves_15 : decode cX1_solves 15 = .ok (.invokevirtual 56, 3) := by decide +kernel
theorem dX1_solves_18 : decode cX1_solves 18 = .ok (.ifCond .eq 7, 3) := by decide +kernel
theorem dX1_solves_21 : decode cX1_solves 21 = .ok (.iconst 1, 1) := by decide +kernel
theorem dX1_solves_22 : decode cX1_solves 22 = .ok (.goto 4, 3) := by decide +kernel
theorem dX1_solves_25 : decode cX1_solves 25 = .ok (.iconst 0, 1) := by decide +kernel
theorem dX1_solves_26 : decode cX1_solves 26 = .ok (.ireturn, 1) := by decide +kernel
abbrev cX1_summed : ByteArray := prog_3_method_11_code
def yX1_summed : MethodName := ⟨RX1, "summed", "()Z"⟩
theorem dX1_summed_0 : decode cX1_summed 0 = .ok (.iconst 0, 1) := by decide +kernel
theorem dX1_summed_1 : decode cX1_summed 1 = .ok (.istore_n 1, 1) := by decide +kernel
theorem dX1_summed_2 : decode cX1_summed 2 = .ok (.iload_n 1, 1) := by decide +kernel
theorem dX1_summed_3 : decode cX1_summed 3 = .ok (.bipush 36, 2) := by decide +kernel
theorem dX1_summed_5 : decode cX1_summed 5 = .ok (.if_icmp .ge 77, 3) := by decide +kernel
theorem dX1_summed_8 : decode cX1_summed 8 = .ok (.iconst 0, 1) := by decide +kernel
theorem dX1_summed_9 : decode cX1_summed 9 = .ok (.istore_n 2, 1) := by decide +kernel
theorem dX1_summed_10 : decode cX1_summed 10 = .ok (.iconst 0, 1) := by decide +kernel
theorem dX1_summed_11 : decode cX1_summed 11 = .ok (.istore_n 3, 1) := by decide +kernel
theorem dX1_summed_12 : decode cX1_summed 12 = .ok (.iload_n 3, 1) := by decide +kernel
theorem dX1_summed_13 : decode cX1_summed 13 = .ok (.aload_n 0, 1) := by decide +kernel
theorem dX1_summed_14 : decode cX1_summed 14 = .ok (.getfield 38, 3) := by decide +kernel
theorem dX1_summed_17 : decode cX1_summed 17 = .ok (.if_icmp .ge 47, 3) := by decide +kernel
theorem dX1_summed_20 : decode cX1_summed 20 = .ok (.aload_n 0, 1) := by decide +kernel
theorem dX1_summed_21 : decode cX1_summed 21 = .ok (.getfield 7, 3) := by decide +kernel
theorem dX1_summed_24 : decode cX1_summed 24 = .ok (.iload_n 1, 1) := by decide +kernel
theorem dX1_summed_25 : decode cX1_summed 25 = .ok (.iaload, 1) := by decide +kernel
theorem dX1_summed_26 : decode cX1_summed 26 = .ok (.ifCond .le 38, 3) := by decide +kernel
theorem dX1_summed_29 : decode cX1_summed 29 = .ok (.aload_n 0, 1) := by decide +kernel
theorem dX1_summed_30 : decode cX1_summed 30 = .ok (.getfield 13, 3) := by decide +kernel
theorem dX1_summed_33 : decode cX1_summed 33 = .ok (.iload_n 3, 1) := by decide +kernel
theorem dX1_summed_34 : decode cX1_summed 34 = .ok (.iaload, 1) := by decide +kernel
theorem dX1_summed_35 : decode cX1_summed 35 = .ok (.iload_n 1, 1) := by decide +kernel
theorem dX1_summed_36 : decode cX1_summed 36 = .ok (.if_icmp .eq 13, 3) := by decide +kernel
theorem dX1_summed_39 : decode cX1_summed 39 = .ok (.aload_n 0, 1) := by decide +kernel
theorem dX1_summed_40 : decode cX1_summed 40 = .ok (.getfield 16, 3) := by decide +kernel
theorem dX1_summed_43 : decode cX1_summed 43 = .ok (.iload_n 3, 1) := by decide +kernel
theorem dX1_summed_44 : decode cX1_summed 44 = .ok (.iaload, 1) := by decide +kernel
theorem dX1_summed_45 : decode cX1_summed 45 = .ok (.iload_n 1, 1) := by decide +kernel
theorem dX1_summed_46 : decode cX1_summed 46 = .ok (.if_icmp .ne 12, 3) := by decide +kernel
theorem dX1_summed_49 : decode cX1_summed 49 = .ok (.iload_n 2, 1) := by decide +kernel
theorem dX1_summed_50 : decode cX1_summed 50 = .ok (.aload_n 0, 1) := by decide +kernel
theorem dX1_summed_51 : decode cX1_summed 51 = .ok (.getfield 23, 3) := by decide +kernel
theorem dX1_summed_54 : decode cX1_summed 54 = .ok (.iload_n 3, 1) := by decide +kernel
theorem dX1_summed_55 : decode cX1_summed 55 = .ok (.iaload, 1) := by decide +kernel
theorem dX1_summed_56 : decode cX1_summed 56 = .ok (.iadd, 1) := by decide +kernel
theorem dX1_summed_57 : decode cX1_summed 57 = .ok (.istore_n 2, 1) := by decide +kernel
theorem dX1_summed_58 : decode cX1_summed 58 = .ok (.iinc 3 1, 3) := by decide +kernel
theorem dX1_summed_61 : decode cX1_summed 61 = .ok (.goto (-49), 3) := by decide +kernel
theorem dX1_summed_64 : decode cX1_summed 64 = .ok (.iload_n 2, 1) := by decide +kernel
theorem dX1_summed_65 : decode cX1_summed 65 = .ok (.aload_n 0, 1) := by decide +kernel
theorem dX1_summed_66 : decode cX1_summed 66 = .ok (.getfield 7, 3) := by decide +kernel
theorem dX1_summed_69 : decode cX1_summed 69 = .ok (.iload_n 1, 1) := by decide +kernel
theorem dX1_summed_70 : decode cX1_summed 70 = .ok (.iaload, 1) := by decide +kernel
theorem dX1_summed_71 : decode cX1_summed 71 = .ok (.if_icmp .eq 5, 3) := by decide +kernel
theorem dX1_summed_74 : decode cX1_summed 74 = .ok (.iconst 0, 1) := by decide +kernel
theorem dX1_summed_75 : decode cX1_summed 75 = .ok (.ireturn, 1) := by decide +kernel
theorem dX1_summed_76 : decode cX1_summed 76 = .ok (.iinc 1 1, 3) := by decide +kernel
theorem dX1_summed_79 : decode cX1_summed 79 = .ok (.goto (-77), 3) := by decide +kernel
theorem dX1_summed_82 : decode cX1_summed 82 = .ok (.iconst 1, 1) := by decide +kernel
theorem dX1_summed_83 : decode cX1_summed 83 = .ok (.ireturn, 1) := by decide +kernel
abbrev cX1_apart : ByteArray := prog_3_method_12_code
def yX1_apart : MethodName := ⟨RX1, "apart", "()Z"⟩
theorem dX1_apart_0 : decode cX1_apart 0 = .ok (.iconst 0, 1) := by decide +kernel
theorem dX1_apart_1 : decode cX1_apart 1 = .ok (.istore_n 1, 1) := by decide +kernel
theorem dX1_apart_2 : decode cX1_apart 2 = .ok (.iload_n 1, 1) := by decide +kernel
theorem dX1_apart_3 : decode cX1_apart 3 = .ok (.aload_n 0, 1) := by decide +kernel
theorem dX1_apart_4 : decode cX1_apart 4 = .ok (.getfield 38, 3) := by decide +kernel
theorem dX1_apart_7 : decode cX1_apart 7 = .ok (.if_icmp .ge 60, 3) := by decide +kernel
theorem dX1_apart_10 : decode cX1_apart 10 = .ok (.iconst 0, 1) := by decide +kernel
theorem dX1_apart_11 : decode cX1_apart 11 = .ok (.istore_n 2, 1) := by decide +kernel
theorem dX1_apart_12 : decode cX1_apart 12 = .ok (.iload_n 2, 1) := by decide +kernel
theorem dX1_apart_13 : decode cX1_apart 13 = .ok (.iload_n 1, 1) := by decide +kernel
theorem dX1_apart_14 : decode cX1_apart 14 = .ok (.if_icmp .ge 47, 3) := by decide +kernel
theorem dX1_apart_17 : decode cX1_apart 17 = .ok (.aload_n 0, 1) := by decide +kernel
theorem dX1_apart_18 : decode cX1_apart 18 = .ok (.getfield 19, 3) := by decide +kernel
theorem dX1_apart_21 : decode cX1_apart 21 = .ok (.iload_n 1, 1) := by decide +kernel
theorem dX1_apart_22 : decode cX1_apart 22 = .ok (.laload, 1) := by decide +kernel
theorem dX1_apart_23 : decode cX1_apart 23 = .ok (.aload_n 0, 1) := by decide +kernel
theorem dX1_apart_24 : decode cX1_apart 24 = .ok (.getfield 19, 3) := by decide +kernel
theorem dX1_apart_27 : decode cX1_apart 27 = .ok (.iload_n 2, 1) := by decide +kernel
theorem dX1_apart_28 : decode cX1_apart 28 = .ok (.laload, 1) := by decide +kernel
theorem dX1_apart_29 : decode cX1_apart 29 = .ok (.land, 1) := by decide +kernel
theorem dX1_apart_30 : decode cX1_apart 30 = .ok (.lconst 0, 1) := by decide +kernel
theorem dX1_apart_31 : decode cX1_apart 31 = .ok (.lcmp, 1) := by decide +kernel
theorem dX1_apart_32 : decode cX1_apart 32 = .ok (.ifCond .eq 23, 3) := by decide +kernel
theorem dX1_apart_35 : decode cX1_apart 35 = .ok (.aload_n 0, 1) := by decide +kernel
theorem dX1_apart_36 : decode cX1_apart 36 = .ok (.getfield 23, 3) := by decide +kernel
theorem dX1_apart_39 : decode cX1_apart 39 = .ok (.iload_n 1, 1) := by decide +kernel
theorem dX1_apart_40 : decode cX1_apart 40 = .ok (.iaload, 1) := by decide +kernel
theorem dX1_apart_41 : decode cX1_apart 41 = .ok (.ifCond .le 14, 3) := by decide +kernel
theorem dX1_apart_44 : decode cX1_apart 44 = .ok (.aload_n 0, 1) := by decide +kernel
theorem dX1_apart_45 : decode cX1_apart 45 = .ok (.getfield 23, 3) := by decide +kernel
theorem dX1_apart_48 : decode cX1_apart 48 = .ok (.iload_n 2, 1) := by decide +kernel
theorem dX1_apart_49 : decode cX1_apart 49 = .ok (.iaload, 1) := by decide +kernel
theorem dX1_apart_50 : decode cX1_apart 50 = .ok (.ifCond .le 5, 3) := by decide +kernel
theorem dX1_apart_53 : decode cX1_apart 53 = .ok (.iconst 0, 1) := by decide +kernel
theorem dX1_apart_54 : decode cX1_apart 54 = .ok (.ireturn, 1) := by decide +kernel
theorem dX1_apart_55 : decode cX1_apart 55 = .ok (.iinc 2 1, 3) := by decide +kernel
theorem dX1_apart_58 : decode cX1_apart 58 = .ok (.goto (-46), 3) := by decide +kernel
theorem dX1_apart_61 : decode cX1_apart 61 = .ok (.iinc 1 1, 3) := by decide +kernel
theorem dX1_apart_64 : decode cX1_apart 64 = .ok (.goto (-62), 3) := by decide +kernel
theorem dX1_apart_67 : decode cX1_apart 67 = .ok (.iconst 1, 1) := by decide +kernel
theorem dX1_apart_68 : decode cX1_apart 68 = .ok (.ireturn, 1) := by decide +kernel
abbrev cX1_joined : ByteArray := prog_3_method_13_code
def yX1_joined : MethodName := ⟨RX1, "joined", "()Z"⟩
theorem dX1_joined_0 : decode cX1_joined 0 = .ok (.iconst 0, 1) := by decide +kernel
theorem dX1_joined_1 : decode cX1_joined 1 = .ok (.istore_n 1, 1) := by decide +kernel
theorem dX1_joined_2 : decode cX1_joined 2 = .ok (.iconst 0, 1) := by decide +kernel
theorem dX1_joined_3 : decode cX1_joined 3 = .ok (.istore_n 2, 1) := by decide +kernel
theorem dX1_joined_4 : decode cX1_joined 4 = .ok (.iload_n 2, 1) := by decide +kernel
theorem dX1_joined_5 : decode cX1_joined 5 = .ok (.bipush 36, 2) := by decide +kernel
theorem dX1_joined_7 : decode cX1_joined 7 = .ok (.if_icmp .ge 44, 3) := by decide +kernel
theorem dX1_joined_10 : decode cX1_joined 10 = .ok (.aload_n 0, 1) := by decide +kernel
theorem dX1_joined_11 : decode cX1_joined 11 = .ok (.getfield 26, 3) := by decide +kernel
theorem dX1_joined_14 : decode cX1_joined 14 = .ok (.iload_n 2, 1) := by decide +kernel
theorem dX1_joined_15 : decode cX1_joined 15 = .ok (.aload_n 0, 1) := by decide +kernel
theorem dX1_joined_16 : decode cX1_joined 16 = .ok (.getfield 7, 3) := by decide +kernel
theorem dX1_joined_19 : decode cX1_joined 19 = .ok (.iload_n 2, 1) := by decide +kernel
theorem dX1_joined_20 : decode cX1_joined 20 = .ok (.iaload, 1) := by decide +kernel
theorem dX1_joined_21 : decode cX1_joined 21 = .ok (.ifCond .le 11, 3) := by decide +kernel
theorem dX1_joined_24 : decode cX1_joined 24 = .ok (.iload_n 1, 1) := by decide +kernel
theorem dX1_joined_25 : decode cX1_joined 25 = .ok (.ifCond .ne 7, 3) := by decide +kernel
theorem dX1_joined_28 : decode cX1_joined 28 = .ok (.iconst 1, 1) := by decide +kernel
theorem dX1_joined_29 : decode cX1_joined 29 = .ok (.goto 4, 3) := by decide +kernel
theorem dX1_joined_32 : decode cX1_joined 32 = .ok (.iconst 0, 1) := by decide +kernel
theorem dX1_joined_33 : decode cX1_joined 33 = .ok (.bastore, 1) := by decide +kernel
theorem dX1_joined_34 : decode cX1_joined 34 = .ok (.aload_n 0, 1) := by decide +kernel
theorem dX1_joined_35 : decode cX1_joined 35 = .ok (.getfield 7, 3) := by decide +kernel
theorem dX1_joined_38 : decode cX1_joined 38 = .ok (.iload_n 2, 1) := by decide +kernel
theorem dX1_joined_39 : decode cX1_joined 39 = .ok (.iaload, 1) := by decide +kernel
theorem dX1_joined_40 : decode cX1_joined 40 = .ok (.ifCond .le 5, 3) := by decide +kernel
theorem dX1_joined_43 : decode cX1_joined 43 = .ok (.iconst 1, 1) := by decide +kernel
theorem dX1_joined_44 : decode cX1_joined 44 = .ok (.istore_n 1, 1) := by decide +kernel
theorem dX1_joined_45 : decode cX1_joined 45 = .ok (.iinc 2 1, 3) := by decide +kernel
theorem dX1_joined_48 : decode cX1_joined 48 = .ok (.goto (-44), 3) := by decide +kernel
theorem dX1_joined_51 : decode cX1_joined 51 = .ok (.iconst 0, 1) := by decide +kernel
theorem dX1_joined_52 : decode cX1_joined 52 = .ok (.istore_n 2, 1) := by decide +kernel
theorem dX1_joined_53 : decode cX1_joined 53 = .ok (.iload_n 2, 1) := by decide +kernel
theorem dX1_joined_54 : decode cX1_joined 54 = .ok (.bipush 7, 2) := by decide +kernel
theorem dX1_joined_56 : decode cX1_joined 56 = .ok (.if_icmp .ge 86, 3) := by decide +kernel
theorem dX1_joined_59 : decode cX1_joined 59 = .ok (.iconst 0, 1) := by decide +kernel
theorem dX1_joined_60 : decode cX1_joined 60 = .ok (.istore_n 3, 1) := by decide +kernel
theorem dX1_joined_61 : decode cX1_joined 61 = .ok (.iload_n 3, 1) := by decide +kernel
theorem dX1_joined_62 : decode cX1_joined 62 = .ok (.aload_n 0, 1) := by decide +kernel
theorem dX1_joined_63 : decode cX1_joined 63 = .ok (.getfield 38, 3) := by decide +kernel
theorem dX1_joined_66 : decode cX1_joined 66 = .ok (.if_icmp .ge 70, 3) := by decide +kernel
theorem dX1_joined_69 : decode cX1_joined 69 = .ok (.aload_n 0, 1) := by decide +kernel
theorem dX1_joined_70 : decode cX1_joined 70 = .ok (.getfield 23, 3) := by decide +kernel
theorem dX1_joined_73 : decode cX1_joined 73 = .ok (.iload_n 3, 1) := by decide +kernel
theorem dX1_joined_74 : decode cX1_joined 74 = .ok (.iaload, 1) := by decide +kernel
theorem dX1_joined_75 : decode cX1_joined 75 = .ok (.ifCond .le 55, 3) := by decide +kernel
theorem dX1_joined_78 : decode cX1_joined 78 = .ok (.aload_n 0, 1) := by decide +kernel
theorem dX1_joined_79 : decode cX1_joined 79 = .ok (.getfield 26, 3) := by decide +kernel
theorem dX1_joined_82 : decode cX1_joined 82 = .ok (.aload_n 0, 1) := by decide +kernel
theorem dX1_joined_83 : decode cX1_joined 83 = .ok (.getfield 13, 3) := by decide +kernel
theorem dX1_joined_86 : decode cX1_joined 86 = .ok (.iload_n 3, 1) := by decide +kernel
theorem dX1_joined_87 : decode cX1_joined 87 = .ok (.iaload, 1) := by decide +kernel
theorem dX1_joined_88 : decode cX1_joined 88 = .ok (.baload, 1) := by decide +kernel
theorem dX1_joined_89 : decode cX1_joined 89 = .ok (.ifCond .ne 17, 3) := by decide +kernel
theorem dX1_joined_92 : decode cX1_joined 92 = .ok (.aload_n 0, 1) := by decide +kernel
theorem dX1_joined_93 : decode cX1_joined 93 = .ok (.getfield 26, 3) := by decide +kernel
theorem dX1_joined_96 : decode cX1_joined 96 = .ok (.aload_n 0, 1) := by decide +kernel
theorem dX1_joined_97 : decode cX1_joined 97 = .ok (.getfield 16, 3) := by decide +kernel
theorem dX1_joined_100 : decode cX1_joined 100 = .ok (.iload_n 3, 1) := by decide +kernel
theorem dX1_joined_101 : decode cX1_joined 101 = .ok (.iaload, 1) := by decide +kernel
theorem dX1_joined_102 : decode cX1_joined 102 = .ok (.baload, 1) := by decide +kernel
theorem dX1_joined_103 : decode cX1_joined 103 = .ok (.ifCond .eq 27, 3) := by decide +kernel
theorem dX1_joined_106 : decode cX1_joined 106 = .ok (.aload_n 0, 1) := by decide +kernel
theorem dX1_joined_107 : decode cX1_joined 107 = .ok (.getfield 26, 3) := by decide +kernel
theorem dX1_joined_110 : decode cX1_joined 110 = .ok (.aload_n 0, 1) := by decide +kernel
theorem dX1_joined_111 : decode cX1_joined 111 = .ok (.getfield 13, 3) := by decide +kernel
theorem dX1_joined_114 : decode cX1_joined 114 = .ok (.iload_n 3, 1) := by decide +kernel
theorem dX1_joined_115 : decode cX1_joined 115 = .ok (.iaload, 1) := by decide +kernel
theorem dX1_joined_116 : decode cX1_joined 116 = .ok (.iconst 1, 1) := by decide +kernel
theorem dX1_joined_117 : decode cX1_joined 117 = .ok (.bastore, 1) := by decide +kernel
theorem dX1_joined_118 : decode cX1_joined 118 = .ok (.aload_n 0, 1) := by decide +kernel
theorem dX1_joined_119 : decode cX1_joined 119 = .ok (.getfield 26, 3) := by decide +kernel
theorem dX1_joined_122 : decode cX1_joined 122 = .ok (.aload_n 0, 1) := by decide +kernel
theorem dX1_joined_123 : decode cX1_joined 123 = .ok (.getfield 16, 3) := by decide +kernel
theorem dX1_joined_126 : decode cX1_joined 126 = .ok (.iload_n 3, 1) := by decide +kernel
theorem dX1_joined_127 : decode cX1_joined 127 = .ok (.iaload, 1) := by decide +kernel
theorem dX1_joined_128 : decode cX1_joined 128 = .ok (.iconst 1, 1) := by decide +kernel
theorem dX1_joined_129 : decode cX1_joined 129 = .ok (.bastore, 1) := by decide +kernel
theorem dX1_joined_130 : decode cX1_joined 130 = .ok (.iinc 3 1, 3) := by decide +kernel
theorem dX1_joined_133 : decode cX1_joined 133 = .ok (.goto (-72), 3) := by decide +kernel
theorem dX1_joined_136 : decode cX1_joined 136 = .ok (.iinc 2 1, 3) := by decide +kernel
theorem dX1_joined_139 : decode cX1_joined 139 = .ok (.goto (-86), 3) := by decide +kernel
theorem dX1_joined_142 : decode cX1_joined 142 = .ok (.iconst 0, 1) := by decide +kernel
theorem dX1_joined_143 : decode cX1_joined 143 = .ok (.istore_n 2, 1) := by decide +kernel
theorem dX1_joined_144 : decode cX1_joined 144 = .ok (.iload_n 2, 1) := by decide +kernel
theorem dX1_joined_145 : decode cX1_joined 145 = .ok (.bipush 36, 2) := by decide +kernel
theorem dX1_joined_147 : decode cX1_joined 147 = .ok (.if_icmp .ge 29, 3) := by decide +kernel
theorem dX1_joined_150 : decode cX1_joined 150 = .ok (.aload_n 0, 1) := by decide +kernel
theorem dX1_joined_151 : decode cX1_joined 151 = .ok (.getfield 7, 3) := by decide +kernel
theorem dX1_joined_154 : decode cX1_joined 154 = .ok (.iload_n 2, 1) := by decide +kernel
theorem dX1_joined_155 : decode cX1_joined 155 = .ok (.iaload, 1) := by decide +kernel
theorem dX1_joined_156 : decode cX1_joined 156 = .ok (.ifCond .le 14, 3) := by decide +kernel
theorem dX1_joined_159 : decode cX1_joined 159 = .ok (.aload_n 0, 1) := by decide +kernel
theorem dX1_joined_160 : decode cX1_joined 160 = .ok (.getfield 26, 3) := by decide +kernel
theorem dX1_joined_163 : decode cX1_joined 163 = .ok (.iload_n 2, 1) := by decide +kernel
theorem dX1_joined_164 : decode cX1_joined 164 = .ok (.baload, 1) := by decide +kernel
theorem dX1_joined_165 : decode cX1_joined 165 = .ok (.ifCond .ne 5, 3) := by decide +kernel
theorem dX1_joined_168 : decode cX1_joined 168 = .ok (.iconst 0, 1) := by decide +kernel
theorem dX1_joined_169 : decode cX1_joined 169 = .ok (.ireturn, 1) := by decide +kernel
theorem dX1_joined_170 : decode cX1_joined 170 = .ok (.iinc 2 1, 3) := by decide +kernel
theorem dX1_joined_173 : decode cX1_joined 173 = .ok (.goto (-29), 3) := by decide +kernel
theorem dX1_joined_176 : decode cX1_joined 176 = .ok (.iconst 1, 1) := by decide +kernel
theorem dX1_joined_177 : decode cX1_joined 177 = .ok (.ireturn, 1) := by decide +kernel
abbrev cX1_next : ByteArray := prog_3_method_16_code
def yX1_next : MethodName := ⟨RX1, "next", "()Z"⟩
theorem dX1_next_0 : decode cX1_next 0 = .ok (.aload_n 0, 1) := by decide +kernel
theorem dX1_next_1 : decode cX1_next 1 = .ok (.getfield 38, 3) := by decide +kernel
theorem dX1_next_4 : decode cX1_next 4 = .ok (.iconst 1, 1) := by decide +kernel
theorem dX1_next_5 : decode cX1_next 5 = .ok (.isub, 1) := by decide +kernel
theorem dX1_next_6 : decode cX1_next 6 = .ok (.istore_n 1, 1) := by decide +kernel
theorem dX1_next_7 : decode cX1_next 7 = .ok (.iload_n 1, 1) := by decide +kernel
theorem dX1_next_8 : decode cX1_next 8 = .ok (.ifCond .lt 38, 3) := by decide +kernel
theorem dX1_next_11 : decode cX1_next 11 = .ok (.aload_n 0, 1) := by decide +kernel
theorem dX1_next_12 : decode cX1_next 12 = .ok (.getfield 23, 3) := by decide +kernel
theorem dX1_next_15 : decode cX1_next 15 = .ok (.iload_n 1, 1) := by decide +kernel
theorem dX1_next_16 : decode cX1_next 16 = .ok (.iaload, 1) := by decide +kernel
theorem dX1_next_17 : decode cX1_next 17 = .ok (.iconst 2, 1) := by decide +kernel
theorem dX1_next_18 : decode cX1_next 18 = .ok (.if_icmp .ge 15, 3) := by decide +kernel
theorem dX1_next_21 : decode cX1_next 21 = .ok (.aload_n 0, 1) := by decide +kernel
theorem dX1_next_22 : decode cX1_next 22 = .ok (.getfield 23, 3) := by decide +kernel
theorem dX1_next_25 : decode cX1_next 25 = .ok (.iload_n 1, 1) := by decide +kernel
theorem dX1_next_26 : decode cX1_next 26 = .ok (.dup2, 1) := by decide +kernel
theorem dX1_next_27 : decode cX1_next 27 = .ok (.iaload, 1) := by decide +kernel
theorem dX1_next_28 : decode cX1_next 28 = .ok (.iconst 1, 1) := by decide +kernel
theorem dX1_next_29 : decode cX1_next 29 = .ok (.iadd, 1) := by decide +kernel
theorem dX1_next_30 : decode cX1_next 30 = .ok (.iastore, 1) := by decide +kernel
theorem dX1_next_31 : decode cX1_next 31 = .ok (.iconst 1, 1) := by decide +kernel
theorem dX1_next_32 : decode cX1_next 32 = .ok (.ireturn, 1) := by decide +kernel
theorem dX1_next_33 : decode cX1_next 33 = .ok (.aload_n 0, 1) := by decide +kernel
theorem dX1_next_34 : decode cX1_next 34 = .ok (.getfield 23, 3) := by decide +kernel
theorem dX1_next_37 : decode cX1_next 37 = .ok (.iload_n 1, 1) := by decide +kernel
theorem dX1_next_38 : decode cX1_next 38 = .ok (.iconst 0, 1) := by decide +kernel
theorem dX1_next_39 : decode cX1_next 39 = .ok (.iastore, 1) := by decide +kernel
theorem dX1_next_40 : decode cX1_next 40 = .ok (.iinc 1 (-1), 3) := by decide +kernel
theorem dX1_next_43 : decode cX1_next 43 = .ok (.goto (-36), 3) := by decide +kernel
theorem dX1_next_46 : decode cX1_next 46 = .ok (.iconst 0, 1) := by decide +kernel
theorem dX1_next_47 : decode cX1_next 47 = .ok (.ireturn, 1) := by decide +kernel
abbrev cX1_least : ByteArray := prog_3_method_19_code
def yX1_least : MethodName := ⟨RX1, "least", "(I)I"⟩
theorem dX1_least_0 : decode cX1_least 0 = .ok (.aload_n 0, 1) := by decide +kernel
theorem dX1_least_1 : decode cX1_least 1 = .ok (.invokevirtual 46, 3) := by decide +kernel
theorem dX1_least_4 : decode cX1_least 4 = .ok (.aload_n 0, 1) := by decide +kernel
theorem dX1_least_5 : decode cX1_least 5 = .ok (.getfield 38, 3) := by decide +kernel
theorem dX1_least_8 : decode cX1_least 8 = .ok (.bipush 8, 2) := by decide +kernel
theorem dX1_least_10 : decode cX1_least 10 = .ok (.if_icmp .le 6, 3) := by decide +kernel
theorem dX1_least_13 : decode cX1_least 13 = .ok (.bipush (-2), 2) := by decide +kernel
theorem dX1_least_15 : decode cX1_least 15 = .ok (.ireturn, 1) := by decide +kernel
theorem dX1_least_16 : decode cX1_least 16 = .ok (.iload_n 1, 1) := by decide +kernel
theorem dX1_least_17 : decode cX1_least 17 = .ok (.ifCond .lt 11, 3) := by decide +kernel
theorem dX1_least_20 : decode cX1_least 20 = .ok (.iload_n 1, 1) := by decide +kernel
theorem dX1_least_21 : decode cX1_least 21 = .ok (.aload_n 0, 1) := by decide +kernel
theorem dX1_least_22 : decode cX1_least 22 = .ok (.getfield 38, 3) := by decide +kernel
theorem dX1_least_25 : decode cX1_least 25 = .ok (.if_icmp .lt 5, 3) := by decide +kernel
theorem dX1_least_28 : decode cX1_least 28 = .ok (.iconst (-1), 1) := by decide +kernel
theorem dX1_least_29 : decode cX1_least 29 = .ok (.ireturn, 1) := by decide +kernel
theorem dX1_least_30 : decode cX1_least 30 = .ok (.aload_n 0, 1) := by decide +kernel
theorem dX1_least_31 : decode cX1_least 31 = .ok (.invokevirtual 59, 3) := by decide +kernel
theorem dX1_least_34 : decode cX1_least 34 = .ok (.iconst 1, 1) := by decide +kernel
theorem dX1_least_35 : decode cX1_least 35 = .ok (.istore_n 2, 1) := by decide +kernel
theorem dX1_least_36 : decode cX1_least 36 = .ok (.iconst 0, 1) := by decide +kernel
theorem dX1_least_37 : decode cX1_least 37 = .ok (.istore_n 3, 1) := by decide +kernel
theorem dX1_least_38 : decode cX1_least 38 = .ok (.iload_n 3, 1) := by decide +kernel
theorem dX1_least_39 : decode cX1_least 39 = .ok (.sipush 6561, 3) := by decide +kernel
theorem dX1_least_42 : decode cX1_least 42 = .ok (.if_icmp .ge 32, 3) := by decide +kernel
theorem dX1_least_45 : decode cX1_least 45 = .ok (.iload_n 2, 1) := by decide +kernel
theorem dX1_least_46 : decode cX1_least 46 = .ok (.ifCond .eq 28, 3) := by decide +kernel
theorem dX1_least_49 : decode cX1_least 49 = .ok (.aload_n 0, 1) := by decide +kernel
theorem dX1_least_50 : decode cX1_least 50 = .ok (.invokevirtual 62, 3) := by decide +kernel
theorem dX1_least_53 : decode cX1_least 53 = .ok (.ifCond .eq 10, 3) := by decide +kernel
theorem dX1_least_56 : decode cX1_least 56 = .ok (.aload_n 0, 1) := by decide +kernel
theorem dX1_least_57 : decode cX1_least 57 = .ok (.getfield 23, 3) := by decide +kernel
theorem dX1_least_60 : decode cX1_least 60 = .ok (.iload_n 1, 1) := by decide +kernel
theorem dX1_least_61 : decode cX1_least 61 = .ok (.iaload, 1) := by decide +kernel
theorem dX1_least_62 : decode cX1_least 62 = .ok (.ireturn, 1) := by decide +kernel
theorem dX1_least_63 : decode cX1_least 63 = .ok (.aload_n 0, 1) := by decide +kernel
theorem dX1_least_64 : decode cX1_least 64 = .ok (.invokevirtual 65, 3) := by decide +kernel
theorem dX1_least_67 : decode cX1_least 67 = .ok (.istore_n 2, 1) := by decide +kernel
theorem dX1_least_68 : decode cX1_least 68 = .ok (.iinc 3 1, 3) := by decide +kernel
theorem dX1_least_71 : decode cX1_least 71 = .ok (.goto (-33), 3) := by decide +kernel
theorem dX1_least_74 : decode cX1_least 74 = .ok (.iconst (-1), 1) := by decide +kernel
theorem dX1_least_75 : decode cX1_least 75 = .ok (.ireturn, 1) := by decide +kernel
abbrev cX1_always : ByteArray := prog_3_method_20_code
def yX1_always : MethodName := ⟨RX1, "always", "(I)I"⟩
theorem dX1_always_0 : decode cX1_always 0 = .ok (.aload_n 0, 1) := by decide +kernel
theorem dX1_always_1 : decode cX1_always 1 = .ok (.invokevirtual 46, 3) := by decide +kernel
theorem dX1_always_4 : decode cX1_always 4 = .ok (.aload_n 0, 1) := by decide +kernel
theorem dX1_always_5 : decode cX1_always 5 = .ok (.getfield 38, 3) := by decide +kernel
theorem dX1_always_8 : decode cX1_always 8 = .ok (.bipush 8, 2) := by decide +kernel
theorem dX1_always_10 : decode cX1_always 10 = .ok (.if_icmp .le 6, 3) := by decide +kernel
theorem dX1_always_13 : decode cX1_always 13 = .ok (.bipush (-2), 2) := by decide +kernel
theorem dX1_always_15 : decode cX1_always 15 = .ok (.ireturn, 1) := by decide +kernel
theorem dX1_always_16 : decode cX1_always 16 = .ok (.iload_n 1, 1) := by decide +kernel
theorem dX1_always_17 : decode cX1_always 17 = .ok (.ifCond .lt 11, 3) := by decide +kernel
theorem dX1_always_20 : decode cX1_always 20 = .ok (.iload_n 1, 1) := by decide +kernel
theorem dX1_always_21 : decode cX1_always 21 = .ok (.aload_n 0, 1) := by decide +kernel
theorem dX1_always_22 : decode cX1_always 22 = .ok (.getfield 38, 3) := by decide +kernel
theorem dX1_always_25 : decode cX1_always 25 = .ok (.if_icmp .lt 5, 3) := by decide +kernel
theorem dX1_always_28 : decode cX1_always 28 = .ok (.iconst (-1), 1) := by decide +kernel
theorem dX1_always_29 : decode cX1_always 29 = .ok (.ireturn, 1) := by decide +kernel
theorem dX1_always_30 : decode cX1_always 30 = .ok (.aload_n 0, 1) := by decide +kernel
theorem dX1_always_31 : decode cX1_always 31 = .ok (.iload_n 1, 1) := by decide +kernel
theorem dX1_always_32 : decode cX1_always 32 = .ok (.iconst 0, 1) := by decide +kernel
theorem dX1_always_33 : decode cX1_always 33 = .ok (.invokevirtual 68, 3) := by decide +kernel
theorem dX1_always_36 : decode cX1_always 36 = .ok (.istore_n 2, 1) := by decide +kernel
theorem dX1_always_37 : decode cX1_always 37 = .ok (.aload_n 0, 1) := by decide +kernel
theorem dX1_always_38 : decode cX1_always 38 = .ok (.iload_n 1, 1) := by decide +kernel
theorem dX1_always_39 : decode cX1_always 39 = .ok (.iconst 1, 1) := by decide +kernel
theorem dX1_always_40 : decode cX1_always 40 = .ok (.invokevirtual 68, 3) := by decide +kernel
theorem dX1_always_43 : decode cX1_always 43 = .ok (.istore_n 3, 1) := by decide +kernel
theorem dX1_always_44 : decode cX1_always 44 = .ok (.aload_n 0, 1) := by decide +kernel
theorem dX1_always_45 : decode cX1_always 45 = .ok (.iload_n 1, 1) := by decide +kernel
theorem dX1_always_46 : decode cX1_always 46 = .ok (.iconst 2, 1) := by decide +kernel
theorem dX1_always_47 : decode cX1_always 47 = .ok (.invokevirtual 68, 3) := by decide +kernel
theorem dX1_always_50 : decode cX1_always 50 = .ok (.istore 4, 2) := by decide +kernel
theorem dX1_always_52 : decode cX1_always 52 = .ok (.iload_n 2, 1) := by decide +kernel
theorem dX1_always_53 : decode cX1_always 53 = .ok (.ifCond .le 12, 3) := by decide +kernel
theorem dX1_always_56 : decode cX1_always 56 = .ok (.iload_n 3, 1) := by decide +kernel
theorem dX1_always_57 : decode cX1_always 57 = .ok (.iload 4, 2) := by decide +kernel
theorem dX1_always_59 : decode cX1_always 59 = .ok (.iadd, 1) := by decide +kernel
theorem dX1_always_60 : decode cX1_always 60 = .ok (.ifCond .ne 5, 3) := by decide +kernel
theorem dX1_always_63 : decode cX1_always 63 = .ok (.iconst 0, 1) := by decide +kernel
theorem dX1_always_64 : decode cX1_always 64 = .ok (.ireturn, 1) := by decide +kernel
theorem dX1_always_65 : decode cX1_always 65 = .ok (.iload_n 3, 1) := by decide +kernel
theorem dX1_always_66 : decode cX1_always 66 = .ok (.ifCond .le 12, 3) := by decide +kernel
theorem dX1_always_69 : decode cX1_always 69 = .ok (.iload_n 2, 1) := by decide +kernel
theorem dX1_always_70 : decode cX1_always 70 = .ok (.iload 4, 2) := by decide +kernel
theorem dX1_always_72 : decode cX1_always 72 = .ok (.iadd, 1) := by decide +kernel
theorem dX1_always_73 : decode cX1_always 73 = .ok (.ifCond .ne 5, 3) := by decide +kernel
theorem dX1_always_76 : decode cX1_always 76 = .ok (.iconst 1, 1) := by decide +kernel
theorem dX1_always_77 : decode cX1_always 77 = .ok (.ireturn, 1) := by decide +kernel
theorem dX1_always_78 : decode cX1_always 78 = .ok (.iload 4, 2) := by decide +kernel
theorem dX1_always_80 : decode cX1_always 80 = .ok (.ifCond .le 11, 3) := by decide +kernel
theorem dX1_always_83 : decode cX1_always 83 = .ok (.iload_n 2, 1) := by decide +kernel
theorem dX1_always_84 : decode cX1_always 84 = .ok (.iload_n 3, 1) := by decide +kernel
theorem dX1_always_85 : decode cX1_always 85 = .ok (.iadd, 1) := by decide +kernel
theorem dX1_always_86 : decode cX1_always 86 = .ok (.ifCond .ne 5, 3) := by decide +kernel
theorem dX1_always_89 : decode cX1_always 89 = .ok (.iconst 2, 1) := by decide +kernel
theorem dX1_always_90 : decode cX1_always 90 = .ok (.ireturn, 1) := by decide +kernel
theorem dX1_always_91 : decode cX1_always 91 = .ok (.iconst (-1), 1) := by decide +kernel
theorem dX1_always_92 : decode cX1_always 92 = .ok (.ireturn, 1) := by decide +kernel
abbrev cX1_with : ByteArray := prog_3_method_21_code
def yX1_with : MethodName := ⟨RX1, "with", "(II)I"⟩
theorem dX1_with_0 : decode cX1_with 0 = .ok (.aload_n 0, 1) := by decide +kernel
theorem dX1_with_1 : decode cX1_with 1 = .ok (.invokevirtual 46, 3) := by decide +kernel
theorem dX1_with_4 : decode cX1_with 4 = .ok (.aload_n 0, 1) := by decide +kernel
theorem dX1_with_5 : decode cX1_with 5 = .ok (.getfield 38, 3) := by decide +kernel
theorem dX1_with_8 : decode cX1_with 8 = .ok (.bipush 8, 2) := by decide +kernel
theorem dX1_with_10 : decode cX1_with 10 = .ok (.if_icmp .le 6, 3) := by decide +kernel
theorem dX1_with_13 : decode cX1_with 13 = .ok (.bipush (-2), 2) := by decide +kernel
theorem dX1_with_15 : decode cX1_with 15 = .ok (.ireturn, 1) := by decide +kernel
theorem dX1_with_16 : decode cX1_with 16 = .ok (.iload_n 1, 1) := by decide +kernel
theorem dX1_with_17 : decode cX1_with 17 = .ok (.ifCond .lt 20, 3) := by decide +kernel
theorem dX1_with_20 : decode cX1_with 20 = .ok (.iload_n 1, 1) := by decide +kernel
theorem dX1_with_21 : decode cX1_with 21 = .ok (.aload_n 0, 1) := by decide +kernel
theorem dX1_with_22 : decode cX1_with 22 = .ok (.getfield 38, 3) := by decide +kernel
theorem dX1_with_25 : decode cX1_with 25 = .ok (.if_icmp .ge 12, 3) := by decide +kernel
theorem dX1_with_28 : decode cX1_with 28 = .ok (.iload_n 2, 1) := by decide +kernel
theorem dX1_with_29 : decode cX1_with 29 = .ok (.ifCond .lt 8, 3) := by decide +kernel
theorem dX1_with_32 : decode cX1_with 32 = .ok (.iload_n 2, 1) := by decide +kernel
theorem dX1_with_33 : decode cX1_with 33 = .ok (.iconst 2, 1) := by decide +kernel
theorem dX1_with_34 : decode cX1_with 34 = .ok (.if_icmp .le 5, 3) := by decide +kernel
theorem dX1_with_37 : decode cX1_with 37 = .ok (.iconst (-1), 1) := by decide +kernel
theorem dX1_with_38 : decode cX1_with 38 = .ok (.ireturn, 1) := by decide +kernel
theorem dX1_with_39 : decode cX1_with 39 = .ok (.aload_n 0, 1) := by decide +kernel
theorem dX1_with_40 : decode cX1_with 40 = .ok (.iload_n 1, 1) := by decide +kernel
theorem dX1_with_41 : decode cX1_with 41 = .ok (.iload_n 2, 1) := by decide +kernel
theorem dX1_with_42 : decode cX1_with 42 = .ok (.invokevirtual 68, 3) := by decide +kernel
theorem dX1_with_45 : decode cX1_with 45 = .ok (.ireturn, 1) := by decide +kernel
theorem q25 : (Jvm.Cond.initialized "BridgeBoardModel") ∈ lw_all := lw_g (lw_at lw_m1 2 rfl) rfl
theorem q196 : (Jvm.Cond.instantiable "BridgeBoardModel" (7 : Nat)) ∈ lw_all := lw_g (lw_at lw_m1 173 rfl) rfl
theorem q198 : (Jvm.Cond.instanceMethod ({ cls := "BridgeBoardModel", name := "<init>", desc := "()V" } : Jvm.MethodName)) ∈ lw_all := lw_g (lw_at lw_m1 175 rfl) rfl
theorem q199 : (Jvm.Cond.code ({ cls := "BridgeBoardModel", name := "<init>", desc := "()V" } : Jvm.MethodName) prog_3_method_1_code (1 : Nat) (Option.none : Option Jvm.ClassFile.FieldType)) ∈ lw_all := lw_g (lw_at lw_m1 176 rfl) rfl
theorem q200 : (Jvm.Cond.methodLink "BridgeBoardModel" (1 : Nat) ({ cls := "java/lang/Object", name := "<init>", desc := "()V" } : Jvm.MethodName)) ∈ lw_all := lw_g (lw_at lw_m1 177 rfl) rfl
theorem q201 : (Jvm.Cond.fieldLink "BridgeBoardModel" (7 : Nat) "BridgeBoardModel" "number" "[I") ∈ lw_all := lw_g (lw_at lw_m1 178 rfl) rfl
theorem q202 : (Jvm.Cond.fieldLink "BridgeBoardModel" (38 : Nat) "BridgeBoardModel" "gaps" "I") ∈ lw_all := lw_g (lw_at lw_m1 179 rfl) rfl
theorem q203 : (Jvm.Cond.fieldLink "BridgeBoardModel" (13 : Nat) "BridgeBoardModel" "near" "[I") ∈ lw_all := lw_g (lw_at lw_m1 180 rfl) rfl
theorem q204 : (Jvm.Cond.fieldLink "BridgeBoardModel" (16 : Nat) "BridgeBoardModel" "far" "[I") ∈ lw_all := lw_g (lw_at lw_m1 181 rfl) rfl
theorem q205 : (Jvm.Cond.fieldLink "BridgeBoardModel" (19 : Nat) "BridgeBoardModel" "between" "[J") ∈ lw_all := lw_g (lw_at lw_m1 182 rfl) rfl
theorem q206 : (Jvm.Cond.fieldLink "BridgeBoardModel" (23 : Nat) "BridgeBoardModel" "bridges" "[I") ∈ lw_all := lw_g (lw_at lw_m1 183 rfl) rfl
theorem q207 : (Jvm.Cond.fieldLink "BridgeBoardModel" (26 : Nat) "BridgeBoardModel" "reached" "[Z") ∈ lw_all := lw_g (lw_at lw_m1 184 rfl) rfl
theorem q208 : (Jvm.Cond.laysFinal "BridgeBoardModel" "BridgeBoardModel" "number" "[I") ∈ lw_all := lw_g (lw_at lw_m1 185 rfl) rfl
theorem q209 : (Jvm.Cond.soleField "BridgeBoardModel" "number") ∈ lw_all := lw_g (lw_at lw_m1 186 rfl) rfl
theorem q210 : (Jvm.Cond.lays "BridgeBoardModel" "BridgeBoardModel" "gaps" "I") ∈ lw_all := lw_g (lw_at lw_m1 187 rfl) rfl
theorem q211 : (Jvm.Cond.soleField "BridgeBoardModel" "gaps") ∈ lw_all := lw_g (lw_at lw_m1 188 rfl) rfl
theorem q212 : (Jvm.Cond.laysFinal "BridgeBoardModel" "BridgeBoardModel" "near" "[I") ∈ lw_all := lw_g (lw_at lw_m1 189 rfl) rfl
theorem q213 : (Jvm.Cond.soleField "BridgeBoardModel" "near") ∈ lw_all := lw_g (lw_at lw_m1 190 rfl) rfl
theorem q214 : (Jvm.Cond.laysFinal "BridgeBoardModel" "BridgeBoardModel" "far" "[I") ∈ lw_all := lw_g (lw_at lw_m1 191 rfl) rfl
theorem q215 : (Jvm.Cond.soleField "BridgeBoardModel" "far") ∈ lw_all := lw_g (lw_at lw_m1 192 rfl) rfl
theorem q216 : (Jvm.Cond.laysFinal "BridgeBoardModel" "BridgeBoardModel" "between" "[J") ∈ lw_all := lw_g (lw_at lw_m1 193 rfl) rfl
theorem q217 : (Jvm.Cond.soleField "BridgeBoardModel" "between") ∈ lw_all := lw_g (lw_at lw_m1 194 rfl) rfl
theorem q218 : (Jvm.Cond.laysFinal "BridgeBoardModel" "BridgeBoardModel" "bridges" "[I") ∈ lw_all := lw_g (lw_at lw_m1 195 rfl) rfl
theorem q219 : (Jvm.Cond.soleField "BridgeBoardModel" "bridges") ∈ lw_all := lw_g (lw_at lw_m1 196 rfl) rfl
theorem q220 : (Jvm.Cond.laysFinal "BridgeBoardModel" "BridgeBoardModel" "reached" "[Z") ∈ lw_all := lw_g (lw_at lw_m1 197 rfl) rfl
theorem q221 : (Jvm.Cond.soleField "BridgeBoardModel" "reached") ∈ lw_all := lw_g (lw_at lw_m1 198 rfl) rfl
theorem q222 : (Jvm.Cond.superclass "BridgeBoardModel" "java/lang/Object") ∈ lw_all := lw_g (lw_at lw_m1 199 rfl) rfl
theorem q225 : (Jvm.Cond.instanceMethod ({ cls := "BridgeBoardModel", name := "place", desc := "(III)I" } : Jvm.MethodName)) ∈ lw_all := lw_g (lw_at lw_m1 202 rfl) rfl
theorem q226 : (Jvm.Cond.selects "BridgeBoardModel" ({ cls := "BridgeBoardModel", name := "place", desc := "(III)I" } : Jvm.MethodName) ({ cls := "BridgeBoardModel", name := "place", desc := "(III)I" } : Jvm.MethodName)) ∈ lw_all := lw_g (lw_at lw_m1 203 rfl) rfl
theorem q227 : (Jvm.Cond.code ({ cls := "BridgeBoardModel", name := "place", desc := "(III)I" } : Jvm.MethodName) prog_3_method_4_code (4 : Nat) (Option.some Jvm.ClassFile.FieldType.int)) ∈ lw_all := lw_g (lw_at lw_m1 204 rfl) rfl
theorem q228 : (Jvm.Cond.methodLink "BridgeBoardModel" (30 : Nat) ({ cls := "BridgeBoardModel", name := "off", desc := "(II)Z" } : Jvm.MethodName)) ∈ lw_all := lw_g (lw_at lw_m1 205 rfl) rfl
theorem q229 : (Jvm.Cond.static ({ cls := "BridgeBoardModel", name := "off", desc := "(II)Z" } : Jvm.MethodName)) ∈ lw_all := lw_g (lw_at lw_m1 206 rfl) rfl
theorem q230 : (Jvm.Cond.code ({ cls := "BridgeBoardModel", name := "off", desc := "(II)Z" } : Jvm.MethodName) prog_3_method_2_code (2 : Nat) (Option.some Jvm.ClassFile.FieldType.boolean)) ∈ lw_all := lw_g (lw_at lw_m1 207 rfl) rfl
theorem q231 : (Jvm.Cond.methodLink "BridgeBoardModel" (34 : Nat) ({ cls := "BridgeBoardModel", name := "held", desc := "()I" } : Jvm.MethodName)) ∈ lw_all := lw_g (lw_at lw_m1 208 rfl) rfl
theorem q232 : (Jvm.Cond.privateMethod ({ cls := "BridgeBoardModel", name := "held", desc := "()I" } : Jvm.MethodName)) ∈ lw_tbl := lw_at lw_m1 209 rfl
theorem q233 : (Jvm.Cond.instanceMethod ({ cls := "BridgeBoardModel", name := "held", desc := "()I" } : Jvm.MethodName)) ∈ lw_all := lw_g (lw_at lw_m1 210 rfl) rfl
theorem q234 : (Jvm.Cond.code ({ cls := "BridgeBoardModel", name := "held", desc := "()I" } : Jvm.MethodName) prog_3_method_3_code (3 : Nat) (Option.some Jvm.ClassFile.FieldType.int)) ∈ lw_all := lw_g (lw_at lw_m1 211 rfl) rfl
theorem q236 : (Jvm.Cond.instanceMethod ({ cls := "BridgeBoardModel", name := "remove", desc := "(II)I" } : Jvm.MethodName)) ∈ lw_all := lw_g (lw_at lw_m1 213 rfl) rfl
theorem q237 : (Jvm.Cond.selects "BridgeBoardModel" ({ cls := "BridgeBoardModel", name := "remove", desc := "(II)I" } : Jvm.MethodName) ({ cls := "BridgeBoardModel", name := "remove", desc := "(II)I" } : Jvm.MethodName)) ∈ lw_all := lw_g (lw_at lw_m1 214 rfl) rfl
theorem q238 : (Jvm.Cond.code ({ cls := "BridgeBoardModel", name := "remove", desc := "(II)I" } : Jvm.MethodName) prog_3_method_5_code (3 : Nat) (Option.some Jvm.ClassFile.FieldType.int)) ∈ lw_all := lw_g (lw_at lw_m1 215 rfl) rfl
theorem q240 : (Jvm.Cond.instanceMethod ({ cls := "BridgeBoardModel", name := "island", desc := "(II)I" } : Jvm.MethodName)) ∈ lw_all := lw_g (lw_at lw_m1 217 rfl) rfl
theorem q241 : (Jvm.Cond.selects "BridgeBoardModel" ({ cls := "BridgeBoardModel", name := "island", desc := "(II)I" } : Jvm.MethodName) ({ cls := "BridgeBoardModel", name := "island", desc := "(II)I" } : Jvm.MethodName)) ∈ lw_all := lw_g (lw_at lw_m1 218 rfl) rfl
theorem q242 : (Jvm.Cond.code ({ cls := "BridgeBoardModel", name := "island", desc := "(II)I" } : Jvm.MethodName) prog_3_method_6_code (3 : Nat) (Option.some Jvm.ClassFile.FieldType.int)) ∈ lw_all := lw_g (lw_at lw_m1 219 rfl) rfl
theorem q244 : (Jvm.Cond.instanceMethod ({ cls := "BridgeBoardModel", name := "gaps", desc := "()I" } : Jvm.MethodName)) ∈ lw_all := lw_g (lw_at lw_m1 221 rfl) rfl
theorem q245 : (Jvm.Cond.selects "BridgeBoardModel" ({ cls := "BridgeBoardModel", name := "gaps", desc := "()I" } : Jvm.MethodName) ({ cls := "BridgeBoardModel", name := "gaps", desc := "()I" } : Jvm.MethodName)) ∈ lw_all := lw_g (lw_at lw_m1 222 rfl) rfl
theorem q246 : (Jvm.Cond.code ({ cls := "BridgeBoardModel", name := "gaps", desc := "()I" } : Jvm.MethodName) prog_3_method_9_code (1 : Nat) (Option.some Jvm.ClassFile.FieldType.int)) ∈ lw_all := lw_g (lw_at lw_m1 223 rfl) rfl
theorem q247 : (Jvm.Cond.methodLink "BridgeBoardModel" (46 : Nat) ({ cls := "BridgeBoardModel", name := "survey", desc := "()V" } : Jvm.MethodName)) ∈ lw_all := lw_g (lw_at lw_m1 224 rfl) rfl
theorem q248 : (Jvm.Cond.privateMethod ({ cls := "BridgeBoardModel", name := "survey", desc := "()V" } : Jvm.MethodName)) ∈ lw_tbl := lw_at lw_m1 225 rfl
theorem q249 : (Jvm.Cond.instanceMethod ({ cls := "BridgeBoardModel", name := "survey", desc := "()V" } : Jvm.MethodName)) ∈ lw_all := lw_g (lw_at lw_m1 226 rfl) rfl
theorem q250 : (Jvm.Cond.code ({ cls := "BridgeBoardModel", name := "survey", desc := "()V" } : Jvm.MethodName) prog_3_method_8_code (2 : Nat) (Option.none : Option Jvm.ClassFile.FieldType)) ∈ lw_all := lw_g (lw_at lw_m1 227 rfl) rfl
theorem q251 : (Jvm.Cond.methodLink "BridgeBoardModel" (42 : Nat) ({ cls := "BridgeBoardModel", name := "look", desc := "(III)V" } : Jvm.MethodName)) ∈ lw_all := lw_g (lw_at lw_m1 228 rfl) rfl
theorem q252 : (Jvm.Cond.privateMethod ({ cls := "BridgeBoardModel", name := "look", desc := "(III)V" } : Jvm.MethodName)) ∈ lw_tbl := lw_at lw_m1 229 rfl
theorem q253 : (Jvm.Cond.instanceMethod ({ cls := "BridgeBoardModel", name := "look", desc := "(III)V" } : Jvm.MethodName)) ∈ lw_all := lw_g (lw_at lw_m1 230 rfl) rfl
theorem q254 : (Jvm.Cond.code ({ cls := "BridgeBoardModel", name := "look", desc := "(III)V" } : Jvm.MethodName) prog_3_method_7_code (8 : Nat) (Option.none : Option Jvm.ClassFile.FieldType)) ∈ lw_all := lw_g (lw_at lw_m1 231 rfl) rfl
theorem q256 : (Jvm.Cond.instanceMethod ({ cls := "BridgeBoardModel", name := "end", desc := "(IZ)I" } : Jvm.MethodName)) ∈ lw_all := lw_g (lw_at lw_m1 233 rfl) rfl
theorem q257 : (Jvm.Cond.selects "BridgeBoardModel" ({ cls := "BridgeBoardModel", name := "end", desc := "(IZ)I" } : Jvm.MethodName) ({ cls := "BridgeBoardModel", name := "end", desc := "(IZ)I" } : Jvm.MethodName)) ∈ lw_all := lw_g (lw_at lw_m1 234 rfl) rfl
theorem q258 : (Jvm.Cond.code ({ cls := "BridgeBoardModel", name := "end", desc := "(IZ)I" } : Jvm.MethodName) prog_3_method_10_code (3 : Nat) (Option.some Jvm.ClassFile.FieldType.int)) ∈ lw_all := lw_g (lw_at lw_m1 235 rfl) rfl
theorem q260 : (Jvm.Cond.instanceMethod ({ cls := "BridgeBoardModel", name := "solutions", desc := "()I" } : Jvm.MethodName)) ∈ lw_all := lw_g (lw_at lw_m1 237 rfl) rfl
theorem q261 : (Jvm.Cond.selects "BridgeBoardModel" ({ cls := "BridgeBoardModel", name := "solutions", desc := "()I" } : Jvm.MethodName) ({ cls := "BridgeBoardModel", name := "solutions", desc := "()I" } : Jvm.MethodName)) ∈ lw_all := lw_g (lw_at lw_m1 238 rfl) rfl
theorem q262 : (Jvm.Cond.code ({ cls := "BridgeBoardModel", name := "solutions", desc := "()I" } : Jvm.MethodName) prog_3_method_18_code (1 : Nat) (Option.some Jvm.ClassFile.FieldType.int)) ∈ lw_all := lw_g (lw_at lw_m1 239 rfl) rfl
theorem q263 : (Jvm.Cond.methodLink "BridgeBoardModel" (68 : Nat) ({ cls := "BridgeBoardModel", name := "count", desc := "(II)I" } : Jvm.MethodName)) ∈ lw_all := lw_g (lw_at lw_m2 0 rfl) rfl
theorem q264 : (Jvm.Cond.privateMethod ({ cls := "BridgeBoardModel", name := "count", desc := "(II)I" } : Jvm.MethodName)) ∈ lw_tbl := lw_at lw_m2 1 rfl
theorem q265 : (Jvm.Cond.instanceMethod ({ cls := "BridgeBoardModel", name := "count", desc := "(II)I" } : Jvm.MethodName)) ∈ lw_all := lw_g (lw_at lw_m2 2 rfl) rfl
theorem q266 : (Jvm.Cond.code ({ cls := "BridgeBoardModel", name := "count", desc := "(II)I" } : Jvm.MethodName) prog_3_method_17_code (6 : Nat) (Option.some Jvm.ClassFile.FieldType.int)) ∈ lw_all := lw_g (lw_at lw_m2 3 rfl) rfl
theorem q267 : (Jvm.Cond.methodLink "BridgeBoardModel" (59 : Nat) ({ cls := "BridgeBoardModel", name := "begin", desc := "()V" } : Jvm.MethodName)) ∈ lw_all := lw_g (lw_at lw_m2 4 rfl) rfl
theorem q268 : (Jvm.Cond.privateMethod ({ cls := "BridgeBoardModel", name := "begin", desc := "()V" } : Jvm.MethodName)) ∈ lw_tbl := lw_at lw_m2 5 rfl
theorem q269 : (Jvm.Cond.instanceMethod ({ cls := "BridgeBoardModel", name := "begin", desc := "()V" } : Jvm.MethodName)) ∈ lw_all := lw_g (lw_at lw_m2 6 rfl) rfl
theorem q270 : (Jvm.Cond.code ({ cls := "BridgeBoardModel", name := "begin", desc := "()V" } : Jvm.MethodName) prog_3_method_15_code (2 : Nat) (Option.none : Option Jvm.ClassFile.FieldType)) ∈ lw_all := lw_g (lw_at lw_m2 7 rfl) rfl
theorem q271 : (Jvm.Cond.methodLink "BridgeBoardModel" (62 : Nat) ({ cls := "BridgeBoardModel", name := "solves", desc := "()Z" } : Jvm.MethodName)) ∈ lw_all := lw_g (lw_at lw_m2 8 rfl) rfl
theorem q272 : (Jvm.Cond.privateMethod ({ cls := "BridgeBoardModel", name := "solves", desc := "()Z" } : Jvm.MethodName)) ∈ lw_tbl := lw_at lw_m2 9 rfl
theorem q273 : (Jvm.Cond.instanceMethod ({ cls := "BridgeBoardModel", name := "solves", desc := "()Z" } : Jvm.MethodName)) ∈ lw_all := lw_g (lw_at lw_m2 10 rfl) rfl
theorem q274 : (Jvm.Cond.code ({ cls := "BridgeBoardModel", name := "solves", desc := "()Z" } : Jvm.MethodName) prog_3_method_14_code (1 : Nat) (Option.some Jvm.ClassFile.FieldType.boolean)) ∈ lw_all := lw_g (lw_at lw_m2 11 rfl) rfl
theorem q275 : (Jvm.Cond.methodLink "BridgeBoardModel" (49 : Nat) ({ cls := "BridgeBoardModel", name := "summed", desc := "()Z" } : Jvm.MethodName)) ∈ lw_all := lw_g (lw_at lw_m2 12 rfl) rfl
theorem q276 : (Jvm.Cond.privateMethod ({ cls := "BridgeBoardModel", name := "summed", desc := "()Z" } : Jvm.MethodName)) ∈ lw_tbl := lw_at lw_m2 13 rfl
theorem q277 : (Jvm.Cond.instanceMethod ({ cls := "BridgeBoardModel", name := "summed", desc := "()Z" } : Jvm.MethodName)) ∈ lw_all := lw_g (lw_at lw_m2 14 rfl) rfl
theorem q278 : (Jvm.Cond.code ({ cls := "BridgeBoardModel", name := "summed", desc := "()Z" } : Jvm.MethodName) prog_3_method_11_code (4 : Nat) (Option.some Jvm.ClassFile.FieldType.boolean)) ∈ lw_all := lw_g (lw_at lw_m2 15 rfl) rfl
theorem q279 : (Jvm.Cond.methodLink "BridgeBoardModel" (53 : Nat) ({ cls := "BridgeBoardModel", name := "apart", desc := "()Z" } : Jvm.MethodName)) ∈ lw_all := lw_g (lw_at lw_m2 16 rfl) rfl
theorem q280 : (Jvm.Cond.privateMethod ({ cls := "BridgeBoardModel", name := "apart", desc := "()Z" } : Jvm.MethodName)) ∈ lw_tbl := lw_at lw_m2 17 rfl
theorem q281 : (Jvm.Cond.instanceMethod ({ cls := "BridgeBoardModel", name := "apart", desc := "()Z" } : Jvm.MethodName)) ∈ lw_all := lw_g (lw_at lw_m2 18 rfl) rfl
theorem q282 : (Jvm.Cond.code ({ cls := "BridgeBoardModel", name := "apart", desc := "()Z" } : Jvm.MethodName) prog_3_method_12_code (3 : Nat) (Option.some Jvm.ClassFile.FieldType.boolean)) ∈ lw_all := lw_g (lw_at lw_m2 19 rfl) rfl
theorem q283 : (Jvm.Cond.methodLink "BridgeBoardModel" (56 : Nat) ({ cls := "BridgeBoardModel", name := "joined", desc := "()Z" } : Jvm.MethodName)) ∈ lw_all := lw_g (lw_at lw_m2 20 rfl) rfl
theorem q284 : (Jvm.Cond.privateMethod ({ cls := "BridgeBoardModel", name := "joined", desc := "()Z" } : Jvm.MethodName)) ∈ lw_tbl := lw_at lw_m2 21 rfl
theorem q285 : (Jvm.Cond.instanceMethod ({ cls := "BridgeBoardModel", name := "joined", desc := "()Z" } : Jvm.MethodName)) ∈ lw_all := lw_g (lw_at lw_m2 22 rfl) rfl
theorem q286 : (Jvm.Cond.code ({ cls := "BridgeBoardModel", name := "joined", desc := "()Z" } : Jvm.MethodName) prog_3_method_13_code (4 : Nat) (Option.some Jvm.ClassFile.FieldType.boolean)) ∈ lw_all := lw_g (lw_at lw_m2 23 rfl) rfl
theorem q287 : (Jvm.Cond.methodLink "BridgeBoardModel" (65 : Nat) ({ cls := "BridgeBoardModel", name := "next", desc := "()Z" } : Jvm.MethodName)) ∈ lw_all := lw_g (lw_at lw_m2 24 rfl) rfl
theorem q288 : (Jvm.Cond.privateMethod ({ cls := "BridgeBoardModel", name := "next", desc := "()Z" } : Jvm.MethodName)) ∈ lw_tbl := lw_at lw_m2 25 rfl
theorem q289 : (Jvm.Cond.instanceMethod ({ cls := "BridgeBoardModel", name := "next", desc := "()Z" } : Jvm.MethodName)) ∈ lw_all := lw_g (lw_at lw_m2 26 rfl) rfl
theorem q290 : (Jvm.Cond.code ({ cls := "BridgeBoardModel", name := "next", desc := "()Z" } : Jvm.MethodName) prog_3_method_16_code (2 : Nat) (Option.some Jvm.ClassFile.FieldType.boolean)) ∈ lw_all := lw_g (lw_at lw_m2 27 rfl) rfl
theorem q292 : (Jvm.Cond.instanceMethod ({ cls := "BridgeBoardModel", name := "least", desc := "(I)I" } : Jvm.MethodName)) ∈ lw_all := lw_g (lw_at lw_m2 29 rfl) rfl
theorem q293 : (Jvm.Cond.selects "BridgeBoardModel" ({ cls := "BridgeBoardModel", name := "least", desc := "(I)I" } : Jvm.MethodName) ({ cls := "BridgeBoardModel", name := "least", desc := "(I)I" } : Jvm.MethodName)) ∈ lw_all := lw_g (lw_at lw_m2 30 rfl) rfl
theorem q294 : (Jvm.Cond.code ({ cls := "BridgeBoardModel", name := "least", desc := "(I)I" } : Jvm.MethodName) prog_3_method_19_code (4 : Nat) (Option.some Jvm.ClassFile.FieldType.int)) ∈ lw_all := lw_g (lw_at lw_m2 31 rfl) rfl
theorem q296 : (Jvm.Cond.instanceMethod ({ cls := "BridgeBoardModel", name := "always", desc := "(I)I" } : Jvm.MethodName)) ∈ lw_all := lw_g (lw_at lw_m2 33 rfl) rfl
theorem q297 : (Jvm.Cond.selects "BridgeBoardModel" ({ cls := "BridgeBoardModel", name := "always", desc := "(I)I" } : Jvm.MethodName) ({ cls := "BridgeBoardModel", name := "always", desc := "(I)I" } : Jvm.MethodName)) ∈ lw_all := lw_g (lw_at lw_m2 34 rfl) rfl
theorem q298 : (Jvm.Cond.code ({ cls := "BridgeBoardModel", name := "always", desc := "(I)I" } : Jvm.MethodName) prog_3_method_20_code (5 : Nat) (Option.some Jvm.ClassFile.FieldType.int)) ∈ lw_all := lw_g (lw_at lw_m2 35 rfl) rfl
theorem q300 : (Jvm.Cond.instanceMethod ({ cls := "BridgeBoardModel", name := "with", desc := "(II)I" } : Jvm.MethodName)) ∈ lw_all := lw_g (lw_at lw_m2 37 rfl) rfl
theorem q301 : (Jvm.Cond.selects "BridgeBoardModel" ({ cls := "BridgeBoardModel", name := "with", desc := "(II)I" } : Jvm.MethodName) ({ cls := "BridgeBoardModel", name := "with", desc := "(II)I" } : Jvm.MethodName)) ∈ lw_all := lw_g (lw_at lw_m2 38 rfl) rfl
theorem q302 : (Jvm.Cond.code ({ cls := "BridgeBoardModel", name := "with", desc := "(II)I" } : Jvm.MethodName) prog_3_method_21_code (3 : Nat) (Option.some Jvm.ClassFile.FieldType.int)) ∈ lw_all := lw_g (lw_at lw_m2 39 rfl) rfl
theorem in_X1 : ∀ w ∈ wsX10, w ∈ lw_all := lw_in wsX10 [208, 210, 212, 214, 216, 218, 220] (by decide +kernel) (by decide +kernel)
end
section
set_option maxRecDepth 100000
theorem q23 : (Jvm.Cond.initialized "BridgeBoardLaw") ∈ lw_all := lw_g (lw_at lw_m1 0 rfl) rfl
set_option maxRecDepth 100000
theorem q26 : (Jvm.Cond.classLink "BridgeBoardLaw" (7 : Nat) "BridgeBoard") ∈ lw_all := lw_g (lw_at lw_m1 3 rfl) rfl
theorem q28 : (Jvm.Cond.methodLink "BridgeBoardLaw" (9 : Nat) ({ cls := "BridgeBoard", name := "<init>", desc := "()V" } : Jvm.MethodName)) ∈ lw_all := lw_g (lw_at lw_m1 5 rfl) rfl
theorem q96 : (Jvm.Cond.methodLink "BridgeBoardLaw" (13 : Nat) ({ cls := "BridgeBoard", name := "place", desc := "(III)I" } : Jvm.MethodName)) ∈ lw_all := lw_g (lw_at lw_m1 73 rfl) rfl
theorem q103 : (Jvm.Cond.methodLink "BridgeBoardLaw" (18 : Nat) ({ cls := "BridgeBoard", name := "remove", desc := "(II)I" } : Jvm.MethodName)) ∈ lw_all := lw_g (lw_at lw_m1 80 rfl) rfl
theorem q107 : (Jvm.Cond.methodLink "BridgeBoardLaw" (23 : Nat) ({ cls := "BridgeBoard", name := "island", desc := "(II)I" } : Jvm.MethodName)) ∈ lw_all := lw_g (lw_at lw_m1 84 rfl) rfl
theorem q111 : (Jvm.Cond.methodLink "BridgeBoardLaw" (27 : Nat) ({ cls := "BridgeBoard", name := "gaps", desc := "()I" } : Jvm.MethodName)) ∈ lw_all := lw_g (lw_at lw_m1 88 rfl) rfl
theorem q115 : (Jvm.Cond.methodLink "BridgeBoardLaw" (32 : Nat) ({ cls := "BridgeBoard", name := "end", desc := "(IZ)I" } : Jvm.MethodName)) ∈ lw_all := lw_g (lw_at lw_m1 92 rfl) rfl
theorem q119 : (Jvm.Cond.methodLink "BridgeBoardLaw" (37 : Nat) ({ cls := "BridgeBoard", name := "solutions", desc := "()I" } : Jvm.MethodName)) ∈ lw_all := lw_g (lw_at lw_m1 96 rfl) rfl
theorem q183 : (Jvm.Cond.methodLink "BridgeBoardLaw" (41 : Nat) ({ cls := "BridgeBoard", name := "least", desc := "(I)I" } : Jvm.MethodName)) ∈ lw_all := lw_g (lw_at lw_m1 160 rfl) rfl
theorem q187 : (Jvm.Cond.methodLink "BridgeBoardLaw" (46 : Nat) ({ cls := "BridgeBoard", name := "always", desc := "(I)I" } : Jvm.MethodName)) ∈ lw_all := lw_g (lw_at lw_m1 164 rfl) rfl
theorem q191 : (Jvm.Cond.methodLink "BridgeBoardLaw" (50 : Nat) ({ cls := "BridgeBoard", name := "with", desc := "(II)I" } : Jvm.MethodName)) ∈ lw_all := lw_g (lw_at lw_m1 168 rfl) rfl
theorem q195 : (Jvm.Cond.classLink "BridgeBoardLaw" (10 : Nat) "BridgeBoardModel") ∈ lw_all := lw_g (lw_at lw_m1 172 rfl) rfl
theorem q197 : (Jvm.Cond.methodLink "BridgeBoardLaw" (12 : Nat) ({ cls := "BridgeBoardModel", name := "<init>", desc := "()V" } : Jvm.MethodName)) ∈ lw_all := lw_g (lw_at lw_m1 174 rfl) rfl
theorem q224 : (Jvm.Cond.methodLink "BridgeBoardLaw" (17 : Nat) ({ cls := "BridgeBoardModel", name := "place", desc := "(III)I" } : Jvm.MethodName)) ∈ lw_all := lw_g (lw_at lw_m1 201 rfl) rfl
theorem q235 : (Jvm.Cond.methodLink "BridgeBoardLaw" (22 : Nat) ({ cls := "BridgeBoardModel", name := "remove", desc := "(II)I" } : Jvm.MethodName)) ∈ lw_all := lw_g (lw_at lw_m1 212 rfl) rfl
theorem q239 : (Jvm.Cond.methodLink "BridgeBoardLaw" (26 : Nat) ({ cls := "BridgeBoardModel", name := "island", desc := "(II)I" } : Jvm.MethodName)) ∈ lw_all := lw_g (lw_at lw_m1 216 rfl) rfl
theorem q243 : (Jvm.Cond.methodLink "BridgeBoardLaw" (31 : Nat) ({ cls := "BridgeBoardModel", name := "gaps", desc := "()I" } : Jvm.MethodName)) ∈ lw_all := lw_g (lw_at lw_m1 220 rfl) rfl
theorem q255 : (Jvm.Cond.methodLink "BridgeBoardLaw" (36 : Nat) ({ cls := "BridgeBoardModel", name := "end", desc := "(IZ)I" } : Jvm.MethodName)) ∈ lw_all := lw_g (lw_at lw_m1 232 rfl) rfl
theorem q259 : (Jvm.Cond.methodLink "BridgeBoardLaw" (40 : Nat) ({ cls := "BridgeBoardModel", name := "solutions", desc := "()I" } : Jvm.MethodName)) ∈ lw_all := lw_g (lw_at lw_m1 236 rfl) rfl
theorem q291 : (Jvm.Cond.methodLink "BridgeBoardLaw" (45 : Nat) ({ cls := "BridgeBoardModel", name := "least", desc := "(I)I" } : Jvm.MethodName)) ∈ lw_all := lw_g (lw_at lw_m2 28 rfl) rfl
theorem q295 : (Jvm.Cond.methodLink "BridgeBoardLaw" (49 : Nat) ({ cls := "BridgeBoardModel", name := "always", desc := "(I)I" } : Jvm.MethodName)) ∈ lw_all := lw_g (lw_at lw_m2 32 rfl) rfl
theorem q299 : (Jvm.Cond.methodLink "BridgeBoardLaw" (53 : Nat) ({ cls := "BridgeBoardModel", name := "with", desc := "(II)I" } : Jvm.MethodName)) ∈ lw_all := lw_g (lw_at lw_m2 36 rfl) rfl

/-! the law's own entry -/
set_option maxRecDepth 100000
abbrev cL_law : ByteArray := code
theorem dL_law_0 : decode cL_law 0 = .ok (.new 7, 3) := by decide +kernel
theorem dL_law_3 : decode cL_law 3 = .ok (.dup, 1) := by decide +kernel
theorem dL_law_4 : decode cL_law 4 = .ok (.invokespecial 9, 3) := by decide +kernel
theorem dL_law_7 : decode cL_law 7 = .ok (.astore_n 1, 1) := by decide +kernel
theorem dL_law_8 : decode cL_law 8 = .ok (.new 10, 3) := by decide +kernel
theorem dL_law_11 : decode cL_law 11 = .ok (.dup, 1) := by decide +kernel
theorem dL_law_12 : decode cL_law 12 = .ok (.invokespecial 12, 3) := by decide +kernel
theorem dL_law_15 : decode cL_law 15 = .ok (.astore_n 2, 1) := by decide +kernel
theorem dL_law_16 : decode cL_law 16 = .ok (.iconst 0, 1) := by decide +kernel
theorem dL_law_17 : decode cL_law 17 = .ok (.istore_n 3, 1) := by decide +kernel
theorem dL_law_18 : decode cL_law 18 = .ok (.iload_n 3, 1) := by decide +kernel
theorem dL_law_19 : decode cL_law 19 = .ok (.aload_n 0, 1) := by decide +kernel
theorem dL_law_20 : decode cL_law 20 = .ok (.arraylength, 1) := by decide +kernel
theorem dL_law_21 : decode cL_law 21 = .ok (.iconst 4, 1) := by decide +kernel
theorem dL_law_22 : decode cL_law 22 = .ok (.isub, 1) := by decide +kernel
theorem dL_law_23 : decode cL_law 23 = .ok (.if_icmp .gt 330, 3) := by decide +kernel
theorem dL_law_26 : decode cL_law 26 = .ok (.aload_n 0, 1) := by decide +kernel
theorem dL_law_27 : decode cL_law 27 = .ok (.iload_n 3, 1) := by decide +kernel
theorem dL_law_28 : decode cL_law 28 = .ok (.iaload, 1) := by decide +kernel
theorem dL_law_29 : decode cL_law 29 = .ok (.bipush 15, 2) := by decide +kernel
theorem dL_law_31 : decode cL_law 31 = .ok (.iand, 1) := by decide +kernel
theorem dL_law_32 : decode cL_law 32 = .ok (.tableswitch 315 0 8 #[52, 95, 128, 161, 174, 223, 236, 259, 282], 52) := by decide +kernel
theorem dL_law_84 : decode cL_law 84 = .ok (.aload_n 1, 1) := by decide +kernel
theorem dL_law_85 : decode cL_law 85 = .ok (.aload_n 0, 1) := by decide +kernel
theorem dL_law_86 : decode cL_law 86 = .ok (.iload_n 3, 1) := by decide +kernel
theorem dL_law_87 : decode cL_law 87 = .ok (.iconst 1, 1) := by decide +kernel
theorem dL_law_88 : decode cL_law 88 = .ok (.iadd, 1) := by decide +kernel
theorem dL_law_89 : decode cL_law 89 = .ok (.iaload, 1) := by decide +kernel
theorem dL_law_90 : decode cL_law 90 = .ok (.aload_n 0, 1) := by decide +kernel
theorem dL_law_91 : decode cL_law 91 = .ok (.iload_n 3, 1) := by decide +kernel
theorem dL_law_92 : decode cL_law 92 = .ok (.iconst 2, 1) := by decide +kernel
theorem dL_law_93 : decode cL_law 93 = .ok (.iadd, 1) := by decide +kernel
theorem dL_law_94 : decode cL_law 94 = .ok (.iaload, 1) := by decide +kernel
theorem dL_law_95 : decode cL_law 95 = .ok (.aload_n 0, 1) := by decide +kernel
theorem dL_law_96 : decode cL_law 96 = .ok (.iload_n 3, 1) := by decide +kernel
theorem dL_law_97 : decode cL_law 97 = .ok (.iconst 3, 1) := by decide +kernel
theorem dL_law_98 : decode cL_law 98 = .ok (.iadd, 1) := by decide +kernel
theorem dL_law_99 : decode cL_law 99 = .ok (.iaload, 1) := by decide +kernel
theorem dL_law_100 : decode cL_law 100 = .ok (.invokevirtual 13, 3) := by decide +kernel
theorem dL_law_103 : decode cL_law 103 = .ok (.aload_n 2, 1) := by decide +kernel
theorem dL_law_104 : decode cL_law 104 = .ok (.aload_n 0, 1) := by decide +kernel
theorem dL_law_105 : decode cL_law 105 = .ok (.iload_n 3, 1) := by decide +kernel
theorem dL_law_106 : decode cL_law 106 = .ok (.iconst 1, 1) := by decide +kernel
theorem dL_law_107 : decode cL_law 107 = .ok (.iadd, 1) := by decide +kernel
theorem dL_law_108 : decode cL_law 108 = .ok (.iaload, 1) := by decide +kernel
theorem dL_law_109 : decode cL_law 109 = .ok (.aload_n 0, 1) := by decide +kernel
theorem dL_law_110 : decode cL_law 110 = .ok (.iload_n 3, 1) := by decide +kernel
theorem dL_law_111 : decode cL_law 111 = .ok (.iconst 2, 1) := by decide +kernel
theorem dL_law_112 : decode cL_law 112 = .ok (.iadd, 1) := by decide +kernel
theorem dL_law_113 : decode cL_law 113 = .ok (.iaload, 1) := by decide +kernel
theorem dL_law_114 : decode cL_law 114 = .ok (.aload_n 0, 1) := by decide +kernel
theorem dL_law_115 : decode cL_law 115 = .ok (.iload_n 3, 1) := by decide +kernel
theorem dL_law_116 : decode cL_law 116 = .ok (.iconst 3, 1) := by decide +kernel
theorem dL_law_117 : decode cL_law 117 = .ok (.iadd, 1) := by decide +kernel
theorem dL_law_118 : decode cL_law 118 = .ok (.iaload, 1) := by decide +kernel
theorem dL_law_119 : decode cL_law 119 = .ok (.invokevirtual 17, 3) := by decide +kernel
theorem dL_law_122 : decode cL_law 122 = .ok (.if_icmp .eq 225, 3) := by decide +kernel
theorem dL_law_125 : decode cL_law 125 = .ok (.iconst 0, 1) := by decide +kernel
theorem dL_law_126 : decode cL_law 126 = .ok (.ireturn, 1) := by decide +kernel
theorem dL_law_127 : decode cL_law 127 = .ok (.aload_n 1, 1) := by decide +kernel
theorem dL_law_128 : decode cL_law 128 = .ok (.aload_n 0, 1) := by decide +kernel
theorem dL_law_129 : decode cL_law 129 = .ok (.iload_n 3, 1) := by decide +kernel
theorem dL_law_130 : decode cL_law 130 = .ok (.iconst 1, 1) := by decide +kernel
theorem dL_law_131 : decode cL_law 131 = .ok (.iadd, 1) := by decide +kernel
theorem dL_law_132 : decode cL_law 132 = .ok (.iaload, 1) := by decide +kernel
theorem dL_law_133 : decode cL_law 133 = .ok (.aload_n 0, 1) := by decide +kernel
theorem dL_law_134 : decode cL_law 134 = .ok (.iload_n 3, 1) := by decide +kernel
theorem dL_law_135 : decode cL_law 135 = .ok (.iconst 2, 1) := by decide +kernel
theorem dL_law_136 : decode cL_law 136 = .ok (.iadd, 1) := by decide +kernel
theorem dL_law_137 : decode cL_law 137 = .ok (.iaload, 1) := by decide +kernel
theorem dL_law_138 : decode cL_law 138 = .ok (.invokevirtual 18, 3) := by decide +kernel
theorem dL_law_141 : decode cL_law 141 = .ok (.aload_n 2, 1) := by decide +kernel
theorem dL_law_142 : decode cL_law 142 = .ok (.aload_n 0, 1) := by decide +kernel
theorem dL_law_143 : decode cL_law 143 = .ok (.iload_n 3, 1) := by decide +kernel
theorem dL_law_144 : decode cL_law 144 = .ok (.iconst 1, 1) := by decide +kernel
theorem dL_law_145 : decode cL_law 145 = .ok (.iadd, 1) := by decide +kernel
theorem dL_law_146 : decode cL_law 146 = .ok (.iaload, 1) := by decide +kernel
theorem dL_law_147 : decode cL_law 147 = .ok (.aload_n 0, 1) := by decide +kernel
theorem dL_law_148 : decode cL_law 148 = .ok (.iload_n 3, 1) := by decide +kernel
theorem dL_law_149 : decode cL_law 149 = .ok (.iconst 2, 1) := by decide +kernel
theorem dL_law_150 : decode cL_law 150 = .ok (.iadd, 1) := by decide +kernel
theorem dL_law_151 : decode cL_law 151 = .ok (.iaload, 1) := by decide +kernel
theorem dL_law_152 : decode cL_law 152 = .ok (.invokevirtual 22, 3) := by decide +kernel
theorem dL_law_155 : decode cL_law 155 = .ok (.if_icmp .eq 192, 3) := by decide +kernel
theorem dL_law_158 : decode cL_law 158 = .ok (.iconst 0, 1) := by decide +kernel
theorem dL_law_159 : decode cL_law 159 = .ok (.ireturn, 1) := by decide +kernel
theorem dL_law_160 : decode cL_law 160 = .ok (.aload_n 1, 1) := by decide +kernel
theorem dL_law_161 : decode cL_law 161 = .ok (.aload_n 0, 1) := by decide +kernel
theorem dL_law_162 : decode cL_law 162 = .ok (.iload_n 3, 1) := by decide +kernel
theorem dL_law_163 : decode cL_law 163 = .ok (.iconst 1, 1) := by decide +kernel
theorem dL_law_164 : decode cL_law 164 = .ok (.iadd, 1) := by decide +kernel
theorem dL_law_165 : decode cL_law 165 = .ok (.iaload, 1) := by decide +kernel
theorem dL_law_166 : decode cL_law 166 = .ok (.aload_n 0, 1) := by decide +kernel
theorem dL_law_167 : decode cL_law 167 = .ok (.iload_n 3, 1) := by decide +kernel
theorem dL_law_168 : decode cL_law 168 = .ok (.iconst 2, 1) := by decide +kernel
theorem dL_law_169 : decode cL_law 169 = .ok (.iadd, 1) := by decide +kernel
theorem dL_law_170 : decode cL_law 170 = .ok (.iaload, 1) := by decide +kernel
theorem dL_law_171 : decode cL_law 171 = .ok (.invokevirtual 23, 3) := by decide +kernel
theorem dL_law_174 : decode cL_law 174 = .ok (.aload_n 2, 1) := by decide +kernel
theorem dL_law_175 : decode cL_law 175 = .ok (.aload_n 0, 1) := by decide +kernel
theorem dL_law_176 : decode cL_law 176 = .ok (.iload_n 3, 1) := by decide +kernel
theorem dL_law_177 : decode cL_law 177 = .ok (.iconst 1, 1) := by decide +kernel
theorem dL_law_178 : decode cL_law 178 = .ok (.iadd, 1) := by decide +kernel
theorem dL_law_179 : decode cL_law 179 = .ok (.iaload, 1) := by decide +kernel
theorem dL_law_180 : decode cL_law 180 = .ok (.aload_n 0, 1) := by decide +kernel
theorem dL_law_181 : decode cL_law 181 = .ok (.iload_n 3, 1) := by decide +kernel
theorem dL_law_182 : decode cL_law 182 = .ok (.iconst 2, 1) := by decide +kernel
theorem dL_law_183 : decode cL_law 183 = .ok (.iadd, 1) := by decide +kernel
theorem dL_law_184 : decode cL_law 184 = .ok (.iaload, 1) := by decide +kernel
theorem dL_law_185 : decode cL_law 185 = .ok (.invokevirtual 26, 3) := by decide +kernel
theorem dL_law_188 : decode cL_law 188 = .ok (.if_icmp .eq 159, 3) := by decide +kernel
theorem dL_law_191 : decode cL_law 191 = .ok (.iconst 0, 1) := by decide +kernel
theorem dL_law_192 : decode cL_law 192 = .ok (.ireturn, 1) := by decide +kernel
theorem dL_law_193 : decode cL_law 193 = .ok (.aload_n 1, 1) := by decide +kernel
theorem dL_law_194 : decode cL_law 194 = .ok (.invokevirtual 27, 3) := by decide +kernel
theorem dL_law_197 : decode cL_law 197 = .ok (.aload_n 2, 1) := by decide +kernel
theorem dL_law_198 : decode cL_law 198 = .ok (.invokevirtual 31, 3) := by decide +kernel
theorem dL_law_201 : decode cL_law 201 = .ok (.if_icmp .eq 146, 3) := by decide +kernel
theorem dL_law_204 : decode cL_law 204 = .ok (.iconst 0, 1) := by decide +kernel
theorem dL_law_205 : decode cL_law 205 = .ok (.ireturn, 1) := by decide +kernel
theorem dL_law_206 : decode cL_law 206 = .ok (.aload_n 1, 1) := by decide +kernel
theorem dL_law_207 : decode cL_law 207 = .ok (.aload_n 0, 1) := by decide +kernel
theorem dL_law_208 : decode cL_law 208 = .ok (.iload_n 3, 1) := by decide +kernel
theorem dL_law_209 : decode cL_law 209 = .ok (.iconst 1, 1) := by decide +kernel
theorem dL_law_210 : decode cL_law 210 = .ok (.iadd, 1) := by decide +kernel
theorem dL_law_211 : decode cL_law 211 = .ok (.iaload, 1) := by decide +kernel
theorem dL_law_212 : decode cL_law 212 = .ok (.aload_n 0, 1) := by decide +kernel
theorem dL_law_213 : decode cL_law 213 = .ok (.iload_n 3, 1) := by decide +kernel
theorem dL_law_214 : decode cL_law 214 = .ok (.iconst 2, 1) := by decide +kernel
theorem dL_law_215 : decode cL_law 215 = .ok (.iadd, 1) := by decide +kernel
theorem dL_law_216 : decode cL_law 216 = .ok (.iaload, 1) := by decide +kernel
theorem dL_law_217 : decode cL_law 217 = .ok (.ifCond .eq 7, 3) := by decide +kernel
theorem dL_law_220 : decode cL_law 220 = .ok (.iconst 1, 1) := by decide +kernel
theorem dL_law_221 : decode cL_law 221 = .ok (.goto 4, 3) := by decide +kernel
theorem dL_law_224 : decode cL_law 224 = .ok (.iconst 0, 1) := by decide +kernel
theorem dL_law_225 : decode cL_law 225 = .ok (.invokevirtual 32, 3) := by decide +kernel
theorem dL_law_228 : decode cL_law 228 = .ok (.aload_n 2, 1) := by decide +kernel
theorem dL_law_229 : decode cL_law 229 = .ok (.aload_n 0, 1) := by decide +kernel
theorem dL_law_230 : decode cL_law 230 = .ok (.iload_n 3, 1) := by decide +kernel
theorem dL_law_231 : decode cL_law 231 = .ok (.iconst 1, 1) := by decide +kernel
theorem dL_law_232 : decode cL_law 232 = .ok (.iadd, 1) := by decide +kernel
theorem dL_law_233 : decode cL_law 233 = .ok (.iaload, 1) := by decide +kernel
theorem dL_law_234 : decode cL_law 234 = .ok (.aload_n 0, 1) := by decide +kernel
theorem dL_law_235 : decode cL_law 235 = .ok (.iload_n 3, 1) := by decide +kernel
theorem dL_law_236 : decode cL_law 236 = .ok (.iconst 2, 1) := by decide +kernel
theorem dL_law_237 : decode cL_law 237 = .ok (.iadd, 1) := by decide +kernel
theorem dL_law_238 : decode cL_law 238 = .ok (.iaload, 1) := by decide +kernel
theorem dL_law_239 : decode cL_law 239 = .ok (.ifCond .eq 7, 3) := by decide +kernel
theorem dL_law_242 : decode cL_law 242 = .ok (.iconst 1, 1) := by decide +kernel
theorem dL_law_243 : decode cL_law 243 = .ok (.goto 4, 3) := by decide +kernel
theorem dL_law_246 : decode cL_law 246 = .ok (.iconst 0, 1) := by decide +kernel
theorem dL_law_247 : decode cL_law 247 = .ok (.invokevirtual 36, 3) := by decide +kernel
theorem dL_law_250 : decode cL_law 250 = .ok (.if_icmp .eq 97, 3) := by decide +kernel
theorem dL_law_253 : decode cL_law 253 = .ok (.iconst 0, 1) := by decide +kernel
theorem dL_law_254 : decode cL_law 254 = .ok (.ireturn, 1) := by decide +kernel
theorem dL_law_255 : decode cL_law 255 = .ok (.aload_n 1, 1) := by decide +kernel
theorem dL_law_256 : decode cL_law 256 = .ok (.invokevirtual 37, 3) := by decide +kernel
theorem dL_law_259 : decode cL_law 259 = .ok (.aload_n 2, 1) := by decide +kernel
theorem dL_law_260 : decode cL_law 260 = .ok (.invokevirtual 40, 3) := by decide +kernel
theorem dL_law_263 : decode cL_law 263 = .ok (.if_icmp .eq 84, 3) := by decide +kernel
theorem dL_law_266 : decode cL_law 266 = .ok (.iconst 0, 1) := by decide +kernel
theorem dL_law_267 : decode cL_law 267 = .ok (.ireturn, 1) := by decide +kernel
theorem dL_law_268 : decode cL_law 268 = .ok (.aload_n 1, 1) := by decide +kernel
theorem dL_law_269 : decode cL_law 269 = .ok (.aload_n 0, 1) := by decide +kernel
theorem dL_law_270 : decode cL_law 270 = .ok (.iload_n 3, 1) := by decide +kernel
theorem dL_law_271 : decode cL_law 271 = .ok (.iconst 1, 1) := by decide +kernel
theorem dL_law_272 : decode cL_law 272 = .ok (.iadd, 1) := by decide +kernel
theorem dL_law_273 : decode cL_law 273 = .ok (.iaload, 1) := by decide +kernel
theorem dL_law_274 : decode cL_law 274 = .ok (.invokevirtual 41, 3) := by decide +kernel
theorem dL_law_277 : decode cL_law 277 = .ok (.aload_n 2, 1) := by decide +kernel
theorem dL_law_278 : decode cL_law 278 = .ok (.aload_n 0, 1) := by decide +kernel
theorem dL_law_279 : decode cL_law 279 = .ok (.iload_n 3, 1) := by decide +kernel
theorem dL_law_280 : decode cL_law 280 = .ok (.iconst 1, 1) := by decide +kernel
theorem dL_law_281 : decode cL_law 281 = .ok (.iadd, 1) := by decide +kernel
theorem dL_law_282 : decode cL_law 282 = .ok (.iaload, 1) := by decide +kernel
theorem dL_law_283 : decode cL_law 283 = .ok (.invokevirtual 45, 3) := by decide +kernel
theorem dL_law_286 : decode cL_law 286 = .ok (.if_icmp .eq 61, 3) := by decide +kernel
theorem dL_law_289 : decode cL_law 289 = .ok (.iconst 0, 1) := by decide +kernel
theorem dL_law_290 : decode cL_law 290 = .ok (.ireturn, 1) := by decide +kernel
theorem dL_law_291 : decode cL_law 291 = .ok (.aload_n 1, 1) := by decide +kernel
theorem dL_law_292 : decode cL_law 292 = .ok (.aload_n 0, 1) := by decide +kernel
theorem dL_law_293 : decode cL_law 293 = .ok (.iload_n 3, 1) := by decide +kernel
theorem dL_law_294 : decode cL_law 294 = .ok (.iconst 1, 1) := by decide +kernel
theorem dL_law_295 : decode cL_law 295 = .ok (.iadd, 1) := by decide +kernel
theorem dL_law_296 : decode cL_law 296 = .ok (.iaload, 1) := by decide +kernel
theorem dL_law_297 : decode cL_law 297 = .ok (.invokevirtual 46, 3) := by decide +kernel
theorem dL_law_300 : decode cL_law 300 = .ok (.aload_n 2, 1) := by decide +kernel
theorem dL_law_301 : decode cL_law 301 = .ok (.aload_n 0, 1) := by decide +kernel
theorem dL_law_302 : decode cL_law 302 = .ok (.iload_n 3, 1) := by decide +kernel
theorem dL_law_303 : decode cL_law 303 = .ok (.iconst 1, 1) := by decide +kernel
theorem dL_law_304 : decode cL_law 304 = .ok (.iadd, 1) := by decide +kernel
theorem dL_law_305 : decode cL_law 305 = .ok (.iaload, 1) := by decide +kernel
theorem dL_law_306 : decode cL_law 306 = .ok (.invokevirtual 49, 3) := by decide +kernel
theorem dL_law_309 : decode cL_law 309 = .ok (.if_icmp .eq 38, 3) := by decide +kernel
theorem dL_law_312 : decode cL_law 312 = .ok (.iconst 0, 1) := by decide +kernel
theorem dL_law_313 : decode cL_law 313 = .ok (.ireturn, 1) := by decide +kernel
theorem dL_law_314 : decode cL_law 314 = .ok (.aload_n 1, 1) := by decide +kernel
theorem dL_law_315 : decode cL_law 315 = .ok (.aload_n 0, 1) := by decide +kernel
theorem dL_law_316 : decode cL_law 316 = .ok (.iload_n 3, 1) := by decide +kernel
theorem dL_law_317 : decode cL_law 317 = .ok (.iconst 1, 1) := by decide +kernel
theorem dL_law_318 : decode cL_law 318 = .ok (.iadd, 1) := by decide +kernel
theorem dL_law_319 : decode cL_law 319 = .ok (.iaload, 1) := by decide +kernel
theorem dL_law_320 : decode cL_law 320 = .ok (.aload_n 0, 1) := by decide +kernel
theorem dL_law_321 : decode cL_law 321 = .ok (.iload_n 3, 1) := by decide +kernel
theorem dL_law_322 : decode cL_law 322 = .ok (.iconst 2, 1) := by decide +kernel
theorem dL_law_323 : decode cL_law 323 = .ok (.iadd, 1) := by decide +kernel
theorem dL_law_324 : decode cL_law 324 = .ok (.iaload, 1) := by decide +kernel
theorem dL_law_325 : decode cL_law 325 = .ok (.invokevirtual 50, 3) := by decide +kernel
theorem dL_law_328 : decode cL_law 328 = .ok (.aload_n 2, 1) := by decide +kernel
theorem dL_law_329 : decode cL_law 329 = .ok (.aload_n 0, 1) := by decide +kernel
theorem dL_law_330 : decode cL_law 330 = .ok (.iload_n 3, 1) := by decide +kernel
theorem dL_law_331 : decode cL_law 331 = .ok (.iconst 1, 1) := by decide +kernel
theorem dL_law_332 : decode cL_law 332 = .ok (.iadd, 1) := by decide +kernel
theorem dL_law_333 : decode cL_law 333 = .ok (.iaload, 1) := by decide +kernel
theorem dL_law_334 : decode cL_law 334 = .ok (.aload_n 0, 1) := by decide +kernel
theorem dL_law_335 : decode cL_law 335 = .ok (.iload_n 3, 1) := by decide +kernel
theorem dL_law_336 : decode cL_law 336 = .ok (.iconst 2, 1) := by decide +kernel
theorem dL_law_337 : decode cL_law 337 = .ok (.iadd, 1) := by decide +kernel
theorem dL_law_338 : decode cL_law 338 = .ok (.iaload, 1) := by decide +kernel
theorem dL_law_339 : decode cL_law 339 = .ok (.invokevirtual 53, 3) := by decide +kernel
theorem dL_law_342 : decode cL_law 342 = .ok (.if_icmp .eq 5, 3) := by decide +kernel
theorem dL_law_345 : decode cL_law 345 = .ok (.iconst 0, 1) := by decide +kernel
theorem dL_law_346 : decode cL_law 346 = .ok (.ireturn, 1) := by decide +kernel
theorem dL_law_347 : decode cL_law 347 = .ok (.iinc 3 4, 3) := by decide +kernel
theorem dL_law_350 : decode cL_law 350 = .ok (.goto (-332), 3) := by decide +kernel
theorem dL_law_353 : decode cL_law 353 = .ok (.iconst 1, 1) := by decide +kernel
theorem dL_law_354 : decode cL_law 354 = .ok (.ireturn, 1) := by decide +kernel
end
section
/-! the worlds of the two classes, step rows, entries, calls -/
set_option maxRecDepth 100000
abbrev vwCl : List vw_C := [(RX0, TX0, 17), (RX1, TX1, 7)]
abbrev kB (dI dJ : ClassId) : List (ClassId × FieldType) := [(dI, .int), (dJ, .long)]
abbrev kM (dI dJ dZ : ClassId) : List (ClassId × FieldType) := [(dI, .int), (dJ, .long), (dZ, .boolean)]
abbrev bbW (h : Nat) (a : Nat → Nat) (dI dJ : ClassId) (vIs : Int32) (vLi : Int32) (vGc : Int32) (vSo : Int32) (vSc : Int32) (vLe : Int32) (fNu : Nat → Int32) (fCo : Nat → Int32) (fIx : Nat → Int32) (fNe : Nat → Int32) (fDi : Nat → Int32) (fBe : Nat → Int64) (fCr : Nat → Int32) (fCw : Nat → Int32) (fDo : Nat → Int32) (fCh : Nat → Int32) (fNx : Nat → Int32) : va_W := [(h, .inr (0, [.ref (a 0), .int vIs, .int vLi, .ref (a 1), .ref (a 2), .int vGc, .ref (a 3), .ref (a 4), .ref (a 5), .ref (a 6), .int vSo, .int vSc, .int vLe, .ref (a 7), .ref (a 8), .ref (a 9), .ref (a 10)])), (a 0, .inl (dI, 36, .inl fNu)), (a 1, .inl (dI, 8, .inl fCo)), (a 2, .inl (dI, 36, .inl fIx)), (a 3, .inl (dI, 16, .inl fNe)), (a 4, .inl (dI, 16, .inl fDi)), (a 5, .inl (dJ, 16, .inr (.inl fBe))), (a 6, .inl (dI, 16, .inl fCr)), (a 7, .inl (dI, 24, .inl fCw)), (a 8, .inl (dI, 10, .inl fDo)), (a 9, .inl (dI, 10, .inl fCh)), (a 10, .inl (dI, 10, .inl fNx))]
abbrev mdW (h : Nat) (a : Nat → Nat) (dI dJ dZ : ClassId) (vGa : Int32) (fNu : Nat → Int32) (fNe : Nat → Int32) (fFa : Nat → Int32) (fBe : Nat → Int64) (fBr : Nat → Int32) (fRe : Nat → Int32) : va_W := [(h, .inr (1, [.ref (a 0), .int vGa, .ref (a 1), .ref (a 2), .ref (a 3), .ref (a 4), .ref (a 5)])), (a 0, .inl (dI, 36, .inl fNu)), (a 1, .inl (dI, 16, .inl fNe)), (a 2, .inl (dI, 16, .inl fFa)), (a 3, .inl (dJ, 16, .inr (.inl fBe))), (a 4, .inl (dI, 16, .inl fBr)), (a 5, .inl (dZ, 36, .inl fRe))]
def bo (b : Bool) : Int32 := if b then 1 else 0
section
variable {p : Program} {l : Launch} {e : Env} {R : Room} {s : State} {m : MethodId} {args : Array Value} {below : List Frame} {meth : Method} {c : Code} {H : Heap} {locs : List Loc} {cells slots : Nat} {Q : State → Prop} {cc : ByteArray} {pc nL : Nat} {ls : Array Slot} {rest : List Value} {D : va_G} {A : Nat → Prop} {H0 : Heap}
theorem ct_i {x y : Int32} (h : x = y) (k : W p l e R s m args below meth c H locs cells slots Q (F0 m pc ls (.int y :: rest))) : W p l e R s m args below meth c H locs cells slots Q (F0 m pc ls (.int x :: rest)) := by rw [h]; exact k
theorem ct_l {x y : Int64} (h : x = y) (k : W p l e R s m args below meth c H locs cells slots Q (F0 m pc ls (.long y :: rest))) : W p l e R s m args below meth c H locs cells slots Q (F0 m pc ls (.long x :: rest)) := by rw [h]; exact k
theorem nn_add (hx : p.tables.exec = Jvm.exec) (hb : c.code = cc) {i j : Nat} (hdg : decode cc pc = .ok (.iadd, 1)) (k : W p l e R s m args below meth c H locs cells slots Q (F0 m (pc + 1) ls (.int (nI (i + j)) :: rest))) : W p l e R s m args below meth c H locs cells slots Q (F0 m pc ls (.int (nI j) :: .int (nI i) :: rest)) := lv_iadd hx hb hdg (ct_i (nI_add i j) k)
theorem nn_mul (hx : p.tables.exec = Jvm.exec) (hb : c.code = cc) {i j : Nat} (hdg : decode cc pc = .ok (.imul, 1)) (k : W p l e R s m args below meth c H locs cells slots Q (F0 m (pc + 1) ls (.int (nI (i * j)) :: rest))) : W p l e R s m args below meth c H locs cells slots Q (F0 m pc ls (.int (nI j) :: .int (nI i) :: rest)) := lv_imul hx hb hdg (ct_i (pk_mul i j) k)
theorem nn_sub (hx : p.tables.exec = Jvm.exec) (hb : c.code = cc) {i j : Nat} (h : j ≤ i) (hdg : decode cc pc = .ok (.isub, 1)) (k : W p l e R s m args below meth c H locs cells slots Q (F0 m (pc + 1) ls (.int (nI (i - j)) :: rest))) : W p l e R s m args below meth c H locs cells slots Q (F0 m pc ls (.int (nI j) :: .int (nI i) :: rest)) := lv_isub hx hb hdg (ct_i (pk_sub h) k)
theorem nn_div (hx : p.tables.exec = Jvm.exec) (hb : c.code = cc) {i j : Nat} (hi : i < 2 ^ 31) (h0 : 0 < j) (hj : j < 2 ^ 31) (hdg : decode cc pc = .ok (.idiv, 1)) (k : W p l e R s m args below meth c H locs cells slots Q (F0 m (pc + 1) ls (.int (nI (i / j)) :: rest))) : W p l e R s m args below meth c H locs cells slots Q (F0 m pc ls (.int (nI j) :: .int (nI i) :: rest)) := lv_idiv hx hb hdg (nI_ne0 h0 hj) (ct_i (pk_div hi h0 hj) k)
theorem nn_rem (hx : p.tables.exec = Jvm.exec) (hb : c.code = cc) {i j : Nat} (hi : i < 2 ^ 31) (h0 : 0 < j) (hj : j < 2 ^ 31) (hdg : decode cc pc = .ok (.irem, 1)) (k : W p l e R s m args below meth c H locs cells slots Q (F0 m (pc + 1) ls (.int (nI (i % j)) :: rest))) : W p l e R s m args below meth c H locs cells slots Q (F0 m pc ls (.int (nI j) :: .int (nI i) :: rest)) := lv_irem hx hb hdg (nI_ne0 h0 hj) (ct_i (pk_rem hi h0 hj) k)
theorem nb_eq (hx : p.tables.exec = Jvm.exec) (hb : c.code = cc) {i j : Nat} {off : Int} {tgt : Nat} (hdg : decode cc pc = .ok (.if_icmp .eq off, 3)) (ht : (pc : Int) + off = (tgt : Int)) (hi : i < 2 ^ 31) (hj : j < 2 ^ 31) (kt : i = j → W p l e R s m args below meth c H locs cells slots Q (F0 m tgt ls rest)) (kf : i ≠ j → W p l e R s m args below meth c H locs cells slots Q (F0 m (pc + 3) ls rest)) : W p l e R s m args below meth c H locs cells slots Q (F0 m pc ls (.int (nI j) :: .int (nI i) :: rest)) := lv_icmp_eq hx hb hdg ht (fun q => kt ((nI_eq hi hj).mp q)) (fun q => kf (fun z => q ((nI_eq hi hj).mpr z)))
theorem nz_eq (hx : p.tables.exec = Jvm.exec) (hb : c.code = cc) {i : Nat} {off : Int} {tgt : Nat} (hdg : decode cc pc = .ok (.ifCond .eq off, 3)) (ht : (pc : Int) + off = (tgt : Int)) (hi : i < 2 ^ 31) (kt : i = 0 → W p l e R s m args below meth c H locs cells slots Q (F0 m tgt ls rest)) (kf : i ≠ 0 → W p l e R s m args below meth c H locs cells slots Q (F0 m (pc + 3) ls rest)) : W p l e R s m args below meth c H locs cells slots Q (F0 m pc ls (.int (nI i) :: rest)) := by
  have e0 : (nI i = 0) ↔ i = 0 := by have := nI_eq (a := i) (b := 0) hi (by decide); exact this
  have e1 : (0 < nI i) ↔ 0 < i := by have := nI_ltI (a := 0) (b := i) (by decide) hi; exact this
  have e2 : (nI i ≤ 0) ↔ i ≤ 0 := by have := nI_leI (a := i) (b := 0) hi (by decide); exact this
  refine lv_if_eq hx hb hdg ht (fun q => kt ?_) (fun q => kf ?_)
  all_goals first | exact e0.mp q | (rw [e0] at q; omega) | (rw [e1] at q; omega) | (rw [e2] at q; omega)
theorem nb_ne (hx : p.tables.exec = Jvm.exec) (hb : c.code = cc) {i j : Nat} {off : Int} {tgt : Nat} (hdg : decode cc pc = .ok (.if_icmp .ne off, 3)) (ht : (pc : Int) + off = (tgt : Int)) (hi : i < 2 ^ 31) (hj : j < 2 ^ 31) (kt : i ≠ j → W p l e R s m args below meth c H locs cells slots Q (F0 m tgt ls rest)) (kf : i = j → W p l e R s m args below meth c H locs cells slots Q (F0 m (pc + 3) ls rest)) : W p l e R s m args below meth c H locs cells slots Q (F0 m pc ls (.int (nI j) :: .int (nI i) :: rest)) := lv_icmp_ne hx hb hdg ht (fun q => kt (fun z => q ((nI_eq hi hj).mpr z))) (fun q => kf ((nI_eq hi hj).mp q))
theorem nz_ne (hx : p.tables.exec = Jvm.exec) (hb : c.code = cc) {i : Nat} {off : Int} {tgt : Nat} (hdg : decode cc pc = .ok (.ifCond .ne off, 3)) (ht : (pc : Int) + off = (tgt : Int)) (hi : i < 2 ^ 31) (kt : i ≠ 0 → W p l e R s m args below meth c H locs cells slots Q (F0 m tgt ls rest)) (kf : i = 0 → W p l e R s m args below meth c H locs cells slots Q (F0 m (pc + 3) ls rest)) : W p l e R s m args below meth c H locs cells slots Q (F0 m pc ls (.int (nI i) :: rest)) := by
  have e0 : (nI i = 0) ↔ i = 0 := by have := nI_eq (a := i) (b := 0) hi (by decide); exact this
  have e1 : (0 < nI i) ↔ 0 < i := by have := nI_ltI (a := 0) (b := i) (by decide) hi; exact this
  have e2 : (nI i ≤ 0) ↔ i ≤ 0 := by have := nI_leI (a := i) (b := 0) hi (by decide); exact this
  refine lv_if_ne hx hb hdg ht (fun q => kt ?_) (fun q => kf ?_)
  all_goals first | exact e0.mp q | (rw [e0] at q; omega) | (rw [e1] at q; omega) | (rw [e2] at q; omega)
theorem nb_lt (hx : p.tables.exec = Jvm.exec) (hb : c.code = cc) {i j : Nat} {off : Int} {tgt : Nat} (hdg : decode cc pc = .ok (.if_icmp .lt off, 3)) (ht : (pc : Int) + off = (tgt : Int)) (hi : i < 2 ^ 31) (hj : j < 2 ^ 31) (kt : i < j → W p l e R s m args below meth c H locs cells slots Q (F0 m tgt ls rest)) (kf : j ≤ i → W p l e R s m args below meth c H locs cells slots Q (F0 m (pc + 3) ls rest)) : W p l e R s m args below meth c H locs cells slots Q (F0 m pc ls (.int (nI j) :: .int (nI i) :: rest)) := lv_icmp_lt hx hb hdg ht (fun q => kt ((nI_ltI hi hj).mp q)) (fun q => kf (Nat.not_lt.mp (fun z => q ((nI_ltI hi hj).mpr z))))
theorem nz_lt (hx : p.tables.exec = Jvm.exec) (hb : c.code = cc) {i : Nat} {off : Int} {tgt : Nat} (hdg : decode cc pc = .ok (.ifCond .lt off, 3)) (ht : (pc : Int) + off = (tgt : Int)) (hi : i < 2 ^ 31) (kf : W p l e R s m args below meth c H locs cells slots Q (F0 m (pc + 3) ls rest)) : W p l e R s m args below meth c H locs cells slots Q (F0 m pc ls (.int (nI i) :: rest)) := lv_if_lt hx hb hdg ht (fun q => absurd q (nI_pos hi)) (fun _ => kf)
theorem nb_ge (hx : p.tables.exec = Jvm.exec) (hb : c.code = cc) {i j : Nat} {off : Int} {tgt : Nat} (hdg : decode cc pc = .ok (.if_icmp .ge off, 3)) (ht : (pc : Int) + off = (tgt : Int)) (hi : i < 2 ^ 31) (hj : j < 2 ^ 31) (kt : j ≤ i → W p l e R s m args below meth c H locs cells slots Q (F0 m tgt ls rest)) (kf : i < j → W p l e R s m args below meth c H locs cells slots Q (F0 m (pc + 3) ls rest)) : W p l e R s m args below meth c H locs cells slots Q (F0 m pc ls (.int (nI j) :: .int (nI i) :: rest)) := lv_icmp_ge hx hb hdg ht (fun q => kt ((nI_leI hj hi).mp q)) (fun q => kf (Nat.not_le.mp (fun z => q ((nI_leI hj hi).mpr z))))
theorem nz_ge (hx : p.tables.exec = Jvm.exec) (hb : c.code = cc) {i : Nat} {off : Int} {tgt : Nat} (hdg : decode cc pc = .ok (.ifCond .ge off, 3)) (ht : (pc : Int) + off = (tgt : Int)) (hi : i < 2 ^ 31) (kf : W p l e R s m args below meth c H locs cells slots Q (F0 m tgt ls rest)) : W p l e R s m args below meth c H locs cells slots Q (F0 m pc ls (.int (nI i) :: rest)) := lv_if_ge hx hb hdg ht (fun _ => kf) (fun q => absurd (nI_pos' hi) q)
theorem nb_gt (hx : p.tables.exec = Jvm.exec) (hb : c.code = cc) {i j : Nat} {off : Int} {tgt : Nat} (hdg : decode cc pc = .ok (.if_icmp .gt off, 3)) (ht : (pc : Int) + off = (tgt : Int)) (hi : i < 2 ^ 31) (hj : j < 2 ^ 31) (kt : j < i → W p l e R s m args below meth c H locs cells slots Q (F0 m tgt ls rest)) (kf : i ≤ j → W p l e R s m args below meth c H locs cells slots Q (F0 m (pc + 3) ls rest)) : W p l e R s m args below meth c H locs cells slots Q (F0 m pc ls (.int (nI j) :: .int (nI i) :: rest)) := lv_icmp_gt hx hb hdg ht (fun q => kt ((nI_ltI hj hi).mp q)) (fun q => kf (Nat.not_lt.mp (fun z => q ((nI_ltI hj hi).mpr z))))
theorem nz_gt (hx : p.tables.exec = Jvm.exec) (hb : c.code = cc) {i : Nat} {off : Int} {tgt : Nat} (hdg : decode cc pc = .ok (.ifCond .gt off, 3)) (ht : (pc : Int) + off = (tgt : Int)) (hi : i < 2 ^ 31) (kt : 0 < i → W p l e R s m args below meth c H locs cells slots Q (F0 m tgt ls rest)) (kf : i = 0 → W p l e R s m args below meth c H locs cells slots Q (F0 m (pc + 3) ls rest)) : W p l e R s m args below meth c H locs cells slots Q (F0 m pc ls (.int (nI i) :: rest)) := by
  have e0 : (nI i = 0) ↔ i = 0 := by have := nI_eq (a := i) (b := 0) hi (by decide); exact this
  have e1 : (0 < nI i) ↔ 0 < i := by have := nI_ltI (a := 0) (b := i) (by decide) hi; exact this
  have e2 : (nI i ≤ 0) ↔ i ≤ 0 := by have := nI_leI (a := i) (b := 0) hi (by decide); exact this
  refine lv_if_gt hx hb hdg ht (fun q => kt ?_) (fun q => kf ?_)
  all_goals first | exact e0.mp q | (rw [e0] at q; omega) | (rw [e1] at q; omega) | (rw [e2] at q; omega)
theorem nb_le (hx : p.tables.exec = Jvm.exec) (hb : c.code = cc) {i j : Nat} {off : Int} {tgt : Nat} (hdg : decode cc pc = .ok (.if_icmp .le off, 3)) (ht : (pc : Int) + off = (tgt : Int)) (hi : i < 2 ^ 31) (hj : j < 2 ^ 31) (kt : i ≤ j → W p l e R s m args below meth c H locs cells slots Q (F0 m tgt ls rest)) (kf : j < i → W p l e R s m args below meth c H locs cells slots Q (F0 m (pc + 3) ls rest)) : W p l e R s m args below meth c H locs cells slots Q (F0 m pc ls (.int (nI j) :: .int (nI i) :: rest)) := lv_icmp_le hx hb hdg ht (fun q => kt ((nI_leI hi hj).mp q)) (fun q => kf (Nat.not_le.mp (fun z => q ((nI_leI hi hj).mpr z))))
theorem nz_le (hx : p.tables.exec = Jvm.exec) (hb : c.code = cc) {i : Nat} {off : Int} {tgt : Nat} (hdg : decode cc pc = .ok (.ifCond .le off, 3)) (ht : (pc : Int) + off = (tgt : Int)) (hi : i < 2 ^ 31) (kt : i = 0 → W p l e R s m args below meth c H locs cells slots Q (F0 m tgt ls rest)) (kf : 0 < i → W p l e R s m args below meth c H locs cells slots Q (F0 m (pc + 3) ls rest)) : W p l e R s m args below meth c H locs cells slots Q (F0 m pc ls (.int (nI i) :: rest)) := by
  have e0 : (nI i = 0) ↔ i = 0 := by have := nI_eq (a := i) (b := 0) hi (by decide); exact this
  have e1 : (0 < nI i) ↔ 0 < i := by have := nI_ltI (a := 0) (b := i) (by decide) hi; exact this
  have e2 : (nI i ≤ 0) ↔ i ≤ 0 := by have := nI_leI (a := i) (b := 0) hi (by decide); exact this
  refine lv_if_le hx hb hdg ht (fun q => kt ?_) (fun q => kf ?_)
  all_goals first | exact e0.mp q | (rw [e0] at q; omega) | (rw [e1] at q; omega) | (rw [e2] at q; omega)
theorem bo_0 {b : Bool} : bo b = 0 ↔ b = false := by cases b <;> decide
theorem bz_eq (hx : p.tables.exec = Jvm.exec) (hb : c.code = cc) {b : Bool} {off : Int} {tgt : Nat} (hdg : decode cc pc = .ok (.ifCond .eq off, 3)) (ht : (pc : Int) + off = (tgt : Int)) (kt : b = false → W p l e R s m args below meth c H locs cells slots Q (F0 m tgt ls rest)) (kf : b = true → W p l e R s m args below meth c H locs cells slots Q (F0 m (pc + 3) ls rest)) : W p l e R s m args below meth c H locs cells slots Q (F0 m pc ls (.int (bo b) :: rest)) := lv_if_eq hx hb hdg ht (fun q => kt (bo_0.mp q)) (fun q => kf (by cases b with | true => rfl | false => exact absurd rfl q))
theorem bz_ne (hx : p.tables.exec = Jvm.exec) (hb : c.code = cc) {b : Bool} {off : Int} {tgt : Nat} (hdg : decode cc pc = .ok (.ifCond .ne off, 3)) (ht : (pc : Int) + off = (tgt : Int)) (kt : b = true → W p l e R s m args below meth c H locs cells slots Q (F0 m tgt ls rest)) (kf : b = false → W p l e R s m args below meth c H locs cells slots Q (F0 m (pc + 3) ls rest)) : W p l e R s m args below meth c H locs cells slots Q (F0 m pc ls (.int (bo b) :: rest)) := lv_if_ne hx hb hdg ht (fun q => kt (by cases b with | true => rfl | false => exact absurd rfl q)) (fun q => kf (bo_0.mp q))
theorem g0_number {h : Nat} {a : Nat → Nat} {dI dJ : ClassId} {vIs : Int32} {vLi : Int32} {vGc : Int32} {vSo : Int32} {vSc : Int32} {vLe : Int32} {fNu : Nat → Int32} {fCo : Nat → Int32} {fIx : Nat → Int32} {fNe : Nat → Int32} {fDi : Nat → Int32} {fBe : Nat → Int64} {fCr : Nat → Int32} {fCw : Nat → Int32} {fDo : Nat → Int32} {fCh : Nat → Int32} {fNx : Nat → Int32} (hC : CallFix p m c cc nL s args lw_all RX0) (hK : va_K D vwCl (kB dI dJ) s) (hP : va_P D vwCl (bbW h a dI dJ vIs vLi vGc vSo vSc vLe fNu fCo fIx fNe fDi fBe fCr fCw fDo fCh fNx) H) (hdg : decode cc pc = .ok (.getfield 7, 3)) (kk : W p l e R s m args below meth c H locs cells slots Q (F0 m (pc + 3) ls (.ref (a 0) :: rest))) : W p l e R s m args below meth c H locs cells slots Q (F0 m pc ls (.ref h :: rest)) := va_get (D := D) (ci := 0) (v := .ref (a 0)) (C := RX0) (T := TX0) (N := 17) hC.1 hC.2.1 hC.2.2.2.2 in_X0 hC.2.2.2.1 hK hP 0 rfl rfl 0 (by decide) (hC.2.2.2.2 _ q42) (fun _ h9 => h9) rfl hdg kk
theorem g0_islands {h : Nat} {a : Nat → Nat} {dI dJ : ClassId} {vIs : Int32} {vLi : Int32} {vGc : Int32} {vSo : Int32} {vSc : Int32} {vLe : Int32} {fNu : Nat → Int32} {fCo : Nat → Int32} {fIx : Nat → Int32} {fNe : Nat → Int32} {fDi : Nat → Int32} {fBe : Nat → Int64} {fCr : Nat → Int32} {fCw : Nat → Int32} {fDo : Nat → Int32} {fCh : Nat → Int32} {fNx : Nat → Int32} (hC : CallFix p m c cc nL s args lw_all RX0) (hK : va_K D vwCl (kB dI dJ) s) (hP : va_P D vwCl (bbW h a dI dJ vIs vLi vGc vSo vSc vLe fNu fCo fIx fNe fDi fBe fCr fCw fDo fCh fNx) H) (hdg : decode cc pc = .ok (.getfield 51, 3)) (kk : W p l e R s m args below meth c H locs cells slots Q (F0 m (pc + 3) ls (.int vIs :: rest))) : W p l e R s m args below meth c H locs cells slots Q (F0 m pc ls (.ref h :: rest)) := va_get (D := D) (ci := 0) (v := .int vIs) (C := RX0) (T := TX0) (N := 17) hC.1 hC.2.1 hC.2.2.2.2 in_X0 hC.2.2.2.1 hK hP 0 rfl rfl 1 (by decide) (hC.2.2.2.2 _ q43) (fun _ h9 => h9) rfl hdg kk
theorem p0_islands {h : Nat} {a : Nat → Nat} {dI dJ : ClassId} {vIs : Int32} {vLi : Int32} {vGc : Int32} {vSo : Int32} {vSc : Int32} {vLe : Int32} {fNu : Nat → Int32} {fCo : Nat → Int32} {fIx : Nat → Int32} {fNe : Nat → Int32} {fDi : Nat → Int32} {fBe : Nat → Int64} {fCr : Nat → Int32} {fCw : Nat → Int32} {fDo : Nat → Int32} {fCh : Nat → Int32} {fNx : Nat → Int32} {x : Int32} (hC : CallFix p m c cc nL s args lw_all RX0) (hK : va_K D vwCl (kB dI dJ) s) (hP : va_P D vwCl (bbW h a dI dJ vIs vLi vGc vSo vSc vLe fNu fCo fIx fNe fDi fBe fCr fCw fDo fCh fNx) H) (hD : va_D A (bbW h a dI dJ vIs vLi vGc vSo vSc vLe fNu fCo fIx fNe fDi fBe fCr fCw fDo fCh fNx)) (hS : va_S A H0 H locs) (hdg : decode cc pc = .ok (.putfield 51, 3)) (kk : ∀ (H1 : Heap) (locs1 : List Loc), va_P D vwCl (bbW h a dI dJ (x) vLi vGc vSo vSc vLe fNu fCo fIx fNe fDi fBe fCr fCw fDo fCh fNx) H1 → va_D A (bbW h a dI dJ (x) vLi vGc vSo vSc vLe fNu fCo fIx fNe fDi fBe fCr fCw fDo fCh fNx) → va_S A H0 H1 locs1 → W p l e R s m args below meth c H1 locs1 cells slots Q (F0 m (pc + 3) ls rest)) : W p l e R s m args below meth c H locs cells slots Q (F0 m pc ls (.int x :: .ref h :: rest)) := va_put (D := D) (ci := 0) (v := .int x) (ty := .int) (C := RX0) (T := TX0) (N := 17) hC.1 hC.2.1 hC.2.2.2.2 in_X0 tyX0 tyX0_ok nmX0 hC.2.2.2.1 hK hP hD hS 0 rfl rfl 1 (by decide) (hC.2.2.2.2 _ q43) (fun _ h9 => h9) rfl (by decide +kernel) rfl rfl (Nat.le_of_ble_eq_true rfl) hdg (fun H1 locs1 a1 a2 a3 => kk H1 locs1 a1 a2 a3)
theorem g0_listed {h : Nat} {a : Nat → Nat} {dI dJ : ClassId} {vIs : Int32} {vLi : Int32} {vGc : Int32} {vSo : Int32} {vSc : Int32} {vLe : Int32} {fNu : Nat → Int32} {fCo : Nat → Int32} {fIx : Nat → Int32} {fNe : Nat → Int32} {fDi : Nat → Int32} {fBe : Nat → Int64} {fCr : Nat → Int32} {fCw : Nat → Int32} {fDo : Nat → Int32} {fCh : Nat → Int32} {fNx : Nat → Int32} (hC : CallFix p m c cc nL s args lw_all RX0) (hK : va_K D vwCl (kB dI dJ) s) (hP : va_P D vwCl (bbW h a dI dJ vIs vLi vGc vSo vSc vLe fNu fCo fIx fNe fDi fBe fCr fCw fDo fCh fNx) H) (hdg : decode cc pc = .ok (.getfield 79, 3)) (kk : W p l e R s m args below meth c H locs cells slots Q (F0 m (pc + 3) ls (.int vLi :: rest))) : W p l e R s m args below meth c H locs cells slots Q (F0 m pc ls (.ref h :: rest)) := va_get (D := D) (ci := 0) (v := .int vLi) (C := RX0) (T := TX0) (N := 17) hC.1 hC.2.1 hC.2.2.2.2 in_X0 hC.2.2.2.1 hK hP 0 rfl rfl 2 (by decide) (hC.2.2.2.2 _ q44) (fun _ h9 => h9) rfl hdg kk
theorem p0_listed {h : Nat} {a : Nat → Nat} {dI dJ : ClassId} {vIs : Int32} {vLi : Int32} {vGc : Int32} {vSo : Int32} {vSc : Int32} {vLe : Int32} {fNu : Nat → Int32} {fCo : Nat → Int32} {fIx : Nat → Int32} {fNe : Nat → Int32} {fDi : Nat → Int32} {fBe : Nat → Int64} {fCr : Nat → Int32} {fCw : Nat → Int32} {fDo : Nat → Int32} {fCh : Nat → Int32} {fNx : Nat → Int32} {x : Int32} (hC : CallFix p m c cc nL s args lw_all RX0) (hK : va_K D vwCl (kB dI dJ) s) (hP : va_P D vwCl (bbW h a dI dJ vIs vLi vGc vSo vSc vLe fNu fCo fIx fNe fDi fBe fCr fCw fDo fCh fNx) H) (hD : va_D A (bbW h a dI dJ vIs vLi vGc vSo vSc vLe fNu fCo fIx fNe fDi fBe fCr fCw fDo fCh fNx)) (hS : va_S A H0 H locs) (hdg : decode cc pc = .ok (.putfield 79, 3)) (kk : ∀ (H1 : Heap) (locs1 : List Loc), va_P D vwCl (bbW h a dI dJ vIs (x) vGc vSo vSc vLe fNu fCo fIx fNe fDi fBe fCr fCw fDo fCh fNx) H1 → va_D A (bbW h a dI dJ vIs (x) vGc vSo vSc vLe fNu fCo fIx fNe fDi fBe fCr fCw fDo fCh fNx) → va_S A H0 H1 locs1 → W p l e R s m args below meth c H1 locs1 cells slots Q (F0 m (pc + 3) ls rest)) : W p l e R s m args below meth c H locs cells slots Q (F0 m pc ls (.int x :: .ref h :: rest)) := va_put (D := D) (ci := 0) (v := .int x) (ty := .int) (C := RX0) (T := TX0) (N := 17) hC.1 hC.2.1 hC.2.2.2.2 in_X0 tyX0 tyX0_ok nmX0 hC.2.2.2.1 hK hP hD hS 0 rfl rfl 2 (by decide) (hC.2.2.2.2 _ q44) (fun _ h9 => h9) rfl (by decide +kernel) rfl rfl (Nat.le_of_ble_eq_true rfl) hdg (fun H1 locs1 a1 a2 a3 => kk H1 locs1 a1 a2 a3)
theorem g0_cellOf {h : Nat} {a : Nat → Nat} {dI dJ : ClassId} {vIs : Int32} {vLi : Int32} {vGc : Int32} {vSo : Int32} {vSc : Int32} {vLe : Int32} {fNu : Nat → Int32} {fCo : Nat → Int32} {fIx : Nat → Int32} {fNe : Nat → Int32} {fDi : Nat → Int32} {fBe : Nat → Int64} {fCr : Nat → Int32} {fCw : Nat → Int32} {fDo : Nat → Int32} {fCh : Nat → Int32} {fNx : Nat → Int32} (hC : CallFix p m c cc nL s args lw_all RX0) (hK : va_K D vwCl (kB dI dJ) s) (hP : va_P D vwCl (bbW h a dI dJ vIs vLi vGc vSo vSc vLe fNu fCo fIx fNe fDi fBe fCr fCw fDo fCh fNx) H) (hdg : decode cc pc = .ok (.getfield 13, 3)) (kk : W p l e R s m args below meth c H locs cells slots Q (F0 m (pc + 3) ls (.ref (a 1) :: rest))) : W p l e R s m args below meth c H locs cells slots Q (F0 m pc ls (.ref h :: rest)) := va_get (D := D) (ci := 0) (v := .ref (a 1)) (C := RX0) (T := TX0) (N := 17) hC.1 hC.2.1 hC.2.2.2.2 in_X0 hC.2.2.2.1 hK hP 0 rfl rfl 3 (by decide) (hC.2.2.2.2 _ q45) (fun _ h9 => h9) rfl hdg kk
theorem g0_indexAt {h : Nat} {a : Nat → Nat} {dI dJ : ClassId} {vIs : Int32} {vLi : Int32} {vGc : Int32} {vSo : Int32} {vSc : Int32} {vLe : Int32} {fNu : Nat → Int32} {fCo : Nat → Int32} {fIx : Nat → Int32} {fNe : Nat → Int32} {fDi : Nat → Int32} {fBe : Nat → Int64} {fCr : Nat → Int32} {fCw : Nat → Int32} {fDo : Nat → Int32} {fCh : Nat → Int32} {fNx : Nat → Int32} (hC : CallFix p m c cc nL s args lw_all RX0) (hK : va_K D vwCl (kB dI dJ) s) (hP : va_P D vwCl (bbW h a dI dJ vIs vLi vGc vSo vSc vLe fNu fCo fIx fNe fDi fBe fCr fCw fDo fCh fNx) H) (hdg : decode cc pc = .ok (.getfield 16, 3)) (kk : W p l e R s m args below meth c H locs cells slots Q (F0 m (pc + 3) ls (.ref (a 2) :: rest))) : W p l e R s m args below meth c H locs cells slots Q (F0 m pc ls (.ref h :: rest)) := va_get (D := D) (ci := 0) (v := .ref (a 2)) (C := RX0) (T := TX0) (N := 17) hC.1 hC.2.1 hC.2.2.2.2 in_X0 hC.2.2.2.1 hK hP 0 rfl rfl 4 (by decide) (hC.2.2.2.2 _ q46) (fun _ h9 => h9) rfl hdg kk
theorem g0_gapCount {h : Nat} {a : Nat → Nat} {dI dJ : ClassId} {vIs : Int32} {vLi : Int32} {vGc : Int32} {vSo : Int32} {vSc : Int32} {vLe : Int32} {fNu : Nat → Int32} {fCo : Nat → Int32} {fIx : Nat → Int32} {fNe : Nat → Int32} {fDi : Nat → Int32} {fBe : Nat → Int64} {fCr : Nat → Int32} {fCw : Nat → Int32} {fDo : Nat → Int32} {fCh : Nat → Int32} {fNx : Nat → Int32} (hC : CallFix p m c cc nL s args lw_all RX0) (hK : va_K D vwCl (kB dI dJ) s) (hP : va_P D vwCl (bbW h a dI dJ vIs vLi vGc vSo vSc vLe fNu fCo fIx fNe fDi fBe fCr fCw fDo fCh fNx) H) (hdg : decode cc pc = .ok (.getfield 55, 3)) (kk : W p l e R s m args below meth c H locs cells slots Q (F0 m (pc + 3) ls (.int vGc :: rest))) : W p l e R s m args below meth c H locs cells slots Q (F0 m pc ls (.ref h :: rest)) := va_get (D := D) (ci := 0) (v := .int vGc) (C := RX0) (T := TX0) (N := 17) hC.1 hC.2.1 hC.2.2.2.2 in_X0 hC.2.2.2.1 hK hP 0 rfl rfl 5 (by decide) (hC.2.2.2.2 _ q47) (fun _ h9 => h9) rfl hdg kk
theorem p0_gapCount {h : Nat} {a : Nat → Nat} {dI dJ : ClassId} {vIs : Int32} {vLi : Int32} {vGc : Int32} {vSo : Int32} {vSc : Int32} {vLe : Int32} {fNu : Nat → Int32} {fCo : Nat → Int32} {fIx : Nat → Int32} {fNe : Nat → Int32} {fDi : Nat → Int32} {fBe : Nat → Int64} {fCr : Nat → Int32} {fCw : Nat → Int32} {fDo : Nat → Int32} {fCh : Nat → Int32} {fNx : Nat → Int32} {x : Int32} (hC : CallFix p m c cc nL s args lw_all RX0) (hK : va_K D vwCl (kB dI dJ) s) (hP : va_P D vwCl (bbW h a dI dJ vIs vLi vGc vSo vSc vLe fNu fCo fIx fNe fDi fBe fCr fCw fDo fCh fNx) H) (hD : va_D A (bbW h a dI dJ vIs vLi vGc vSo vSc vLe fNu fCo fIx fNe fDi fBe fCr fCw fDo fCh fNx)) (hS : va_S A H0 H locs) (hdg : decode cc pc = .ok (.putfield 55, 3)) (kk : ∀ (H1 : Heap) (locs1 : List Loc), va_P D vwCl (bbW h a dI dJ vIs vLi (x) vSo vSc vLe fNu fCo fIx fNe fDi fBe fCr fCw fDo fCh fNx) H1 → va_D A (bbW h a dI dJ vIs vLi (x) vSo vSc vLe fNu fCo fIx fNe fDi fBe fCr fCw fDo fCh fNx) → va_S A H0 H1 locs1 → W p l e R s m args below meth c H1 locs1 cells slots Q (F0 m (pc + 3) ls rest)) : W p l e R s m args below meth c H locs cells slots Q (F0 m pc ls (.int x :: .ref h :: rest)) := va_put (D := D) (ci := 0) (v := .int x) (ty := .int) (C := RX0) (T := TX0) (N := 17) hC.1 hC.2.1 hC.2.2.2.2 in_X0 tyX0 tyX0_ok nmX0 hC.2.2.2.1 hK hP hD hS 0 rfl rfl 5 (by decide) (hC.2.2.2.2 _ q47) (fun _ h9 => h9) rfl (by decide +kernel) rfl rfl (Nat.le_of_ble_eq_true rfl) hdg (fun H1 locs1 a1 a2 a3 => kk H1 locs1 a1 a2 a3)
theorem g0_near {h : Nat} {a : Nat → Nat} {dI dJ : ClassId} {vIs : Int32} {vLi : Int32} {vGc : Int32} {vSo : Int32} {vSc : Int32} {vLe : Int32} {fNu : Nat → Int32} {fCo : Nat → Int32} {fIx : Nat → Int32} {fNe : Nat → Int32} {fDi : Nat → Int32} {fBe : Nat → Int64} {fCr : Nat → Int32} {fCw : Nat → Int32} {fDo : Nat → Int32} {fCh : Nat → Int32} {fNx : Nat → Int32} (hC : CallFix p m c cc nL s args lw_all RX0) (hK : va_K D vwCl (kB dI dJ) s) (hP : va_P D vwCl (bbW h a dI dJ vIs vLi vGc vSo vSc vLe fNu fCo fIx fNe fDi fBe fCr fCw fDo fCh fNx) H) (hdg : decode cc pc = .ok (.getfield 19, 3)) (kk : W p l e R s m args below meth c H locs cells slots Q (F0 m (pc + 3) ls (.ref (a 3) :: rest))) : W p l e R s m args below meth c H locs cells slots Q (F0 m pc ls (.ref h :: rest)) := va_get (D := D) (ci := 0) (v := .ref (a 3)) (C := RX0) (T := TX0) (N := 17) hC.1 hC.2.1 hC.2.2.2.2 in_X0 hC.2.2.2.1 hK hP 0 rfl rfl 6 (by decide) (hC.2.2.2.2 _ q48) (fun _ h9 => h9) rfl hdg kk
theorem g0_distant {h : Nat} {a : Nat → Nat} {dI dJ : ClassId} {vIs : Int32} {vLi : Int32} {vGc : Int32} {vSo : Int32} {vSc : Int32} {vLe : Int32} {fNu : Nat → Int32} {fCo : Nat → Int32} {fIx : Nat → Int32} {fNe : Nat → Int32} {fDi : Nat → Int32} {fBe : Nat → Int64} {fCr : Nat → Int32} {fCw : Nat → Int32} {fDo : Nat → Int32} {fCh : Nat → Int32} {fNx : Nat → Int32} (hC : CallFix p m c cc nL s args lw_all RX0) (hK : va_K D vwCl (kB dI dJ) s) (hP : va_P D vwCl (bbW h a dI dJ vIs vLi vGc vSo vSc vLe fNu fCo fIx fNe fDi fBe fCr fCw fDo fCh fNx) H) (hdg : decode cc pc = .ok (.getfield 22, 3)) (kk : W p l e R s m args below meth c H locs cells slots Q (F0 m (pc + 3) ls (.ref (a 4) :: rest))) : W p l e R s m args below meth c H locs cells slots Q (F0 m pc ls (.ref h :: rest)) := va_get (D := D) (ci := 0) (v := .ref (a 4)) (C := RX0) (T := TX0) (N := 17) hC.1 hC.2.1 hC.2.2.2.2 in_X0 hC.2.2.2.1 hK hP 0 rfl rfl 7 (by decide) (hC.2.2.2.2 _ q49) (fun _ h9 => h9) rfl hdg kk
theorem g0_between {h : Nat} {a : Nat → Nat} {dI dJ : ClassId} {vIs : Int32} {vLi : Int32} {vGc : Int32} {vSo : Int32} {vSc : Int32} {vLe : Int32} {fNu : Nat → Int32} {fCo : Nat → Int32} {fIx : Nat → Int32} {fNe : Nat → Int32} {fDi : Nat → Int32} {fBe : Nat → Int64} {fCr : Nat → Int32} {fCw : Nat → Int32} {fDo : Nat → Int32} {fCh : Nat → Int32} {fNx : Nat → Int32} (hC : CallFix p m c cc nL s args lw_all RX0) (hK : va_K D vwCl (kB dI dJ) s) (hP : va_P D vwCl (bbW h a dI dJ vIs vLi vGc vSo vSc vLe fNu fCo fIx fNe fDi fBe fCr fCw fDo fCh fNx) H) (hdg : decode cc pc = .ok (.getfield 25, 3)) (kk : W p l e R s m args below meth c H locs cells slots Q (F0 m (pc + 3) ls (.ref (a 5) :: rest))) : W p l e R s m args below meth c H locs cells slots Q (F0 m pc ls (.ref h :: rest)) := va_get (D := D) (ci := 0) (v := .ref (a 5)) (C := RX0) (T := TX0) (N := 17) hC.1 hC.2.1 hC.2.2.2.2 in_X0 hC.2.2.2.1 hK hP 0 rfl rfl 8 (by decide) (hC.2.2.2.2 _ q50) (fun _ h9 => h9) rfl hdg kk
theorem g0_crossing {h : Nat} {a : Nat → Nat} {dI dJ : ClassId} {vIs : Int32} {vLi : Int32} {vGc : Int32} {vSo : Int32} {vSc : Int32} {vLe : Int32} {fNu : Nat → Int32} {fCo : Nat → Int32} {fIx : Nat → Int32} {fNe : Nat → Int32} {fDi : Nat → Int32} {fBe : Nat → Int64} {fCr : Nat → Int32} {fCw : Nat → Int32} {fDo : Nat → Int32} {fCh : Nat → Int32} {fNx : Nat → Int32} (hC : CallFix p m c cc nL s args lw_all RX0) (hK : va_K D vwCl (kB dI dJ) s) (hP : va_P D vwCl (bbW h a dI dJ vIs vLi vGc vSo vSc vLe fNu fCo fIx fNe fDi fBe fCr fCw fDo fCh fNx) H) (hdg : decode cc pc = .ok (.getfield 29, 3)) (kk : W p l e R s m args below meth c H locs cells slots Q (F0 m (pc + 3) ls (.ref (a 6) :: rest))) : W p l e R s m args below meth c H locs cells slots Q (F0 m pc ls (.ref h :: rest)) := va_get (D := D) (ci := 0) (v := .ref (a 6)) (C := RX0) (T := TX0) (N := 17) hC.1 hC.2.1 hC.2.2.2.2 in_X0 hC.2.2.2.1 hK hP 0 rfl rfl 9 (by decide) (hC.2.2.2.2 _ q51) (fun _ h9 => h9) rfl hdg kk
theorem g0_solved {h : Nat} {a : Nat → Nat} {dI dJ : ClassId} {vIs : Int32} {vLi : Int32} {vGc : Int32} {vSo : Int32} {vSc : Int32} {vLe : Int32} {fNu : Nat → Int32} {fCo : Nat → Int32} {fIx : Nat → Int32} {fNe : Nat → Int32} {fDi : Nat → Int32} {fBe : Nat → Int64} {fCr : Nat → Int32} {fCw : Nat → Int32} {fDo : Nat → Int32} {fCh : Nat → Int32} {fNx : Nat → Int32} (hC : CallFix p m c cc nL s args lw_all RX0) (hK : va_K D vwCl (kB dI dJ) s) (hP : va_P D vwCl (bbW h a dI dJ vIs vLi vGc vSo vSc vLe fNu fCo fIx fNe fDi fBe fCr fCw fDo fCh fNx) H) (hdg : decode cc pc = .ok (.getfield 75, 3)) (kk : W p l e R s m args below meth c H locs cells slots Q (F0 m (pc + 3) ls (.int vSo :: rest))) : W p l e R s m args below meth c H locs cells slots Q (F0 m pc ls (.ref h :: rest)) := va_get (D := D) (ci := 0) (v := .int vSo) (C := RX0) (T := TX0) (N := 17) hC.1 hC.2.1 hC.2.2.2.2 in_X0 hC.2.2.2.1 hK hP 0 rfl rfl 10 (by decide) (hC.2.2.2.2 _ q52) (fun _ h9 => h9) rfl hdg kk
theorem p0_solved {h : Nat} {a : Nat → Nat} {dI dJ : ClassId} {vIs : Int32} {vLi : Int32} {vGc : Int32} {vSo : Int32} {vSc : Int32} {vLe : Int32} {fNu : Nat → Int32} {fCo : Nat → Int32} {fIx : Nat → Int32} {fNe : Nat → Int32} {fDi : Nat → Int32} {fBe : Nat → Int64} {fCr : Nat → Int32} {fCw : Nat → Int32} {fDo : Nat → Int32} {fCh : Nat → Int32} {fNx : Nat → Int32} {x : Int32} (hC : CallFix p m c cc nL s args lw_all RX0) (hK : va_K D vwCl (kB dI dJ) s) (hP : va_P D vwCl (bbW h a dI dJ vIs vLi vGc vSo vSc vLe fNu fCo fIx fNe fDi fBe fCr fCw fDo fCh fNx) H) (hD : va_D A (bbW h a dI dJ vIs vLi vGc vSo vSc vLe fNu fCo fIx fNe fDi fBe fCr fCw fDo fCh fNx)) (hS : va_S A H0 H locs) (hn : narrow .boolean (.int x) = .int x) (hf : fits .boolean (.int x) = true) (hdg : decode cc pc = .ok (.putfield 75, 3)) (kk : ∀ (H1 : Heap) (locs1 : List Loc), va_P D vwCl (bbW h a dI dJ vIs vLi vGc (x) vSc vLe fNu fCo fIx fNe fDi fBe fCr fCw fDo fCh fNx) H1 → va_D A (bbW h a dI dJ vIs vLi vGc (x) vSc vLe fNu fCo fIx fNe fDi fBe fCr fCw fDo fCh fNx) → va_S A H0 H1 locs1 → W p l e R s m args below meth c H1 locs1 cells slots Q (F0 m (pc + 3) ls rest)) : W p l e R s m args below meth c H locs cells slots Q (F0 m pc ls (.int x :: .ref h :: rest)) := va_put (D := D) (ci := 0) (v := .int x) (ty := .boolean) (C := RX0) (T := TX0) (N := 17) hC.1 hC.2.1 hC.2.2.2.2 in_X0 tyX0 tyX0_ok nmX0 hC.2.2.2.1 hK hP hD hS 0 rfl rfl 10 (by decide) (hC.2.2.2.2 _ q52) (fun _ h9 => h9) rfl (by decide +kernel) hn hf (Nat.le_of_ble_eq_true rfl) hdg (fun H1 locs1 a1 a2 a3 => kk H1 locs1 a1 a2 a3)
theorem g0_solutionCount {h : Nat} {a : Nat → Nat} {dI dJ : ClassId} {vIs : Int32} {vLi : Int32} {vGc : Int32} {vSo : Int32} {vSc : Int32} {vLe : Int32} {fNu : Nat → Int32} {fCo : Nat → Int32} {fIx : Nat → Int32} {fNe : Nat → Int32} {fDi : Nat → Int32} {fBe : Nat → Int64} {fCr : Nat → Int32} {fCw : Nat → Int32} {fDo : Nat → Int32} {fCh : Nat → Int32} {fNx : Nat → Int32} (hC : CallFix p m c cc nL s args lw_all RX0) (hK : va_K D vwCl (kB dI dJ) s) (hP : va_P D vwCl (bbW h a dI dJ vIs vLi vGc vSo vSc vLe fNu fCo fIx fNe fDi fBe fCr fCw fDo fCh fNx) H) (hdg : decode cc pc = .ok (.getfield 61, 3)) (kk : W p l e R s m args below meth c H locs cells slots Q (F0 m (pc + 3) ls (.int vSc :: rest))) : W p l e R s m args below meth c H locs cells slots Q (F0 m pc ls (.ref h :: rest)) := va_get (D := D) (ci := 0) (v := .int vSc) (C := RX0) (T := TX0) (N := 17) hC.1 hC.2.1 hC.2.2.2.2 in_X0 hC.2.2.2.1 hK hP 0 rfl rfl 11 (by decide) (hC.2.2.2.2 _ q53) (fun _ h9 => h9) rfl hdg kk
theorem p0_solutionCount {h : Nat} {a : Nat → Nat} {dI dJ : ClassId} {vIs : Int32} {vLi : Int32} {vGc : Int32} {vSo : Int32} {vSc : Int32} {vLe : Int32} {fNu : Nat → Int32} {fCo : Nat → Int32} {fIx : Nat → Int32} {fNe : Nat → Int32} {fDi : Nat → Int32} {fBe : Nat → Int64} {fCr : Nat → Int32} {fCw : Nat → Int32} {fDo : Nat → Int32} {fCh : Nat → Int32} {fNx : Nat → Int32} {x : Int32} (hC : CallFix p m c cc nL s args lw_all RX0) (hK : va_K D vwCl (kB dI dJ) s) (hP : va_P D vwCl (bbW h a dI dJ vIs vLi vGc vSo vSc vLe fNu fCo fIx fNe fDi fBe fCr fCw fDo fCh fNx) H) (hD : va_D A (bbW h a dI dJ vIs vLi vGc vSo vSc vLe fNu fCo fIx fNe fDi fBe fCr fCw fDo fCh fNx)) (hS : va_S A H0 H locs) (hdg : decode cc pc = .ok (.putfield 61, 3)) (kk : ∀ (H1 : Heap) (locs1 : List Loc), va_P D vwCl (bbW h a dI dJ vIs vLi vGc vSo (x) vLe fNu fCo fIx fNe fDi fBe fCr fCw fDo fCh fNx) H1 → va_D A (bbW h a dI dJ vIs vLi vGc vSo (x) vLe fNu fCo fIx fNe fDi fBe fCr fCw fDo fCh fNx) → va_S A H0 H1 locs1 → W p l e R s m args below meth c H1 locs1 cells slots Q (F0 m (pc + 3) ls rest)) : W p l e R s m args below meth c H locs cells slots Q (F0 m pc ls (.int x :: .ref h :: rest)) := va_put (D := D) (ci := 0) (v := .int x) (ty := .int) (C := RX0) (T := TX0) (N := 17) hC.1 hC.2.1 hC.2.2.2.2 in_X0 tyX0 tyX0_ok nmX0 hC.2.2.2.1 hK hP hD hS 0 rfl rfl 11 (by decide) (hC.2.2.2.2 _ q53) (fun _ h9 => h9) rfl (by decide +kernel) rfl rfl (Nat.le_of_ble_eq_true rfl) hdg (fun H1 locs1 a1 a2 a3 => kk H1 locs1 a1 a2 a3)
theorem g0_leastSolution {h : Nat} {a : Nat → Nat} {dI dJ : ClassId} {vIs : Int32} {vLi : Int32} {vGc : Int32} {vSo : Int32} {vSc : Int32} {vLe : Int32} {fNu : Nat → Int32} {fCo : Nat → Int32} {fIx : Nat → Int32} {fNe : Nat → Int32} {fDi : Nat → Int32} {fBe : Nat → Int64} {fCr : Nat → Int32} {fCw : Nat → Int32} {fDo : Nat → Int32} {fCh : Nat → Int32} {fNx : Nat → Int32} (hC : CallFix p m c cc nL s args lw_all RX0) (hK : va_K D vwCl (kB dI dJ) s) (hP : va_P D vwCl (bbW h a dI dJ vIs vLi vGc vSo vSc vLe fNu fCo fIx fNe fDi fBe fCr fCw fDo fCh fNx) H) (hdg : decode cc pc = .ok (.getfield 64, 3)) (kk : W p l e R s m args below meth c H locs cells slots Q (F0 m (pc + 3) ls (.int vLe :: rest))) : W p l e R s m args below meth c H locs cells slots Q (F0 m pc ls (.ref h :: rest)) := va_get (D := D) (ci := 0) (v := .int vLe) (C := RX0) (T := TX0) (N := 17) hC.1 hC.2.1 hC.2.2.2.2 in_X0 hC.2.2.2.1 hK hP 0 rfl rfl 12 (by decide) (hC.2.2.2.2 _ q54) (fun _ h9 => h9) rfl hdg kk
theorem p0_leastSolution {h : Nat} {a : Nat → Nat} {dI dJ : ClassId} {vIs : Int32} {vLi : Int32} {vGc : Int32} {vSo : Int32} {vSc : Int32} {vLe : Int32} {fNu : Nat → Int32} {fCo : Nat → Int32} {fIx : Nat → Int32} {fNe : Nat → Int32} {fDi : Nat → Int32} {fBe : Nat → Int64} {fCr : Nat → Int32} {fCw : Nat → Int32} {fDo : Nat → Int32} {fCh : Nat → Int32} {fNx : Nat → Int32} {x : Int32} (hC : CallFix p m c cc nL s args lw_all RX0) (hK : va_K D vwCl (kB dI dJ) s) (hP : va_P D vwCl (bbW h a dI dJ vIs vLi vGc vSo vSc vLe fNu fCo fIx fNe fDi fBe fCr fCw fDo fCh fNx) H) (hD : va_D A (bbW h a dI dJ vIs vLi vGc vSo vSc vLe fNu fCo fIx fNe fDi fBe fCr fCw fDo fCh fNx)) (hS : va_S A H0 H locs) (hdg : decode cc pc = .ok (.putfield 64, 3)) (kk : ∀ (H1 : Heap) (locs1 : List Loc), va_P D vwCl (bbW h a dI dJ vIs vLi vGc vSo vSc (x) fNu fCo fIx fNe fDi fBe fCr fCw fDo fCh fNx) H1 → va_D A (bbW h a dI dJ vIs vLi vGc vSo vSc (x) fNu fCo fIx fNe fDi fBe fCr fCw fDo fCh fNx) → va_S A H0 H1 locs1 → W p l e R s m args below meth c H1 locs1 cells slots Q (F0 m (pc + 3) ls rest)) : W p l e R s m args below meth c H locs cells slots Q (F0 m pc ls (.int x :: .ref h :: rest)) := va_put (D := D) (ci := 0) (v := .int x) (ty := .int) (C := RX0) (T := TX0) (N := 17) hC.1 hC.2.1 hC.2.2.2.2 in_X0 tyX0 tyX0_ok nmX0 hC.2.2.2.1 hK hP hD hS 0 rfl rfl 12 (by decide) (hC.2.2.2.2 _ q54) (fun _ h9 => h9) rfl (by decide +kernel) rfl rfl (Nat.le_of_ble_eq_true rfl) hdg (fun H1 locs1 a1 a2 a3 => kk H1 locs1 a1 a2 a3)
theorem g0_countWith {h : Nat} {a : Nat → Nat} {dI dJ : ClassId} {vIs : Int32} {vLi : Int32} {vGc : Int32} {vSo : Int32} {vSc : Int32} {vLe : Int32} {fNu : Nat → Int32} {fCo : Nat → Int32} {fIx : Nat → Int32} {fNe : Nat → Int32} {fDi : Nat → Int32} {fBe : Nat → Int64} {fCr : Nat → Int32} {fCw : Nat → Int32} {fDo : Nat → Int32} {fCh : Nat → Int32} {fNx : Nat → Int32} (hC : CallFix p m c cc nL s args lw_all RX0) (hK : va_K D vwCl (kB dI dJ) s) (hP : va_P D vwCl (bbW h a dI dJ vIs vLi vGc vSo vSc vLe fNu fCo fIx fNe fDi fBe fCr fCw fDo fCh fNx) H) (hdg : decode cc pc = .ok (.getfield 32, 3)) (kk : W p l e R s m args below meth c H locs cells slots Q (F0 m (pc + 3) ls (.ref (a 7) :: rest))) : W p l e R s m args below meth c H locs cells slots Q (F0 m pc ls (.ref h :: rest)) := va_get (D := D) (ci := 0) (v := .ref (a 7)) (C := RX0) (T := TX0) (N := 17) hC.1 hC.2.1 hC.2.2.2.2 in_X0 hC.2.2.2.1 hK hP 0 rfl rfl 13 (by decide) (hC.2.2.2.2 _ q55) (fun _ h9 => h9) rfl hdg kk
theorem g0_domains {h : Nat} {a : Nat → Nat} {dI dJ : ClassId} {vIs : Int32} {vLi : Int32} {vGc : Int32} {vSo : Int32} {vSc : Int32} {vLe : Int32} {fNu : Nat → Int32} {fCo : Nat → Int32} {fIx : Nat → Int32} {fNe : Nat → Int32} {fDi : Nat → Int32} {fBe : Nat → Int64} {fCr : Nat → Int32} {fCw : Nat → Int32} {fDo : Nat → Int32} {fCh : Nat → Int32} {fNx : Nat → Int32} (hC : CallFix p m c cc nL s args lw_all RX0) (hK : va_K D vwCl (kB dI dJ) s) (hP : va_P D vwCl (bbW h a dI dJ vIs vLi vGc vSo vSc vLe fNu fCo fIx fNe fDi fBe fCr fCw fDo fCh fNx) H) (hdg : decode cc pc = .ok (.getfield 35, 3)) (kk : W p l e R s m args below meth c H locs cells slots Q (F0 m (pc + 3) ls (.ref (a 8) :: rest))) : W p l e R s m args below meth c H locs cells slots Q (F0 m pc ls (.ref h :: rest)) := va_get (D := D) (ci := 0) (v := .ref (a 8)) (C := RX0) (T := TX0) (N := 17) hC.1 hC.2.1 hC.2.2.2.2 in_X0 hC.2.2.2.1 hK hP 0 rfl rfl 14 (by decide) (hC.2.2.2.2 _ q56) (fun _ h9 => h9) rfl hdg kk
theorem g0_choiceGap {h : Nat} {a : Nat → Nat} {dI dJ : ClassId} {vIs : Int32} {vLi : Int32} {vGc : Int32} {vSo : Int32} {vSc : Int32} {vLe : Int32} {fNu : Nat → Int32} {fCo : Nat → Int32} {fIx : Nat → Int32} {fNe : Nat → Int32} {fDi : Nat → Int32} {fBe : Nat → Int64} {fCr : Nat → Int32} {fCw : Nat → Int32} {fDo : Nat → Int32} {fCh : Nat → Int32} {fNx : Nat → Int32} (hC : CallFix p m c cc nL s args lw_all RX0) (hK : va_K D vwCl (kB dI dJ) s) (hP : va_P D vwCl (bbW h a dI dJ vIs vLi vGc vSo vSc vLe fNu fCo fIx fNe fDi fBe fCr fCw fDo fCh fNx) H) (hdg : decode cc pc = .ok (.getfield 38, 3)) (kk : W p l e R s m args below meth c H locs cells slots Q (F0 m (pc + 3) ls (.ref (a 9) :: rest))) : W p l e R s m args below meth c H locs cells slots Q (F0 m pc ls (.ref h :: rest)) := va_get (D := D) (ci := 0) (v := .ref (a 9)) (C := RX0) (T := TX0) (N := 17) hC.1 hC.2.1 hC.2.2.2.2 in_X0 hC.2.2.2.1 hK hP 0 rfl rfl 15 (by decide) (hC.2.2.2.2 _ q57) (fun _ h9 => h9) rfl hdg kk
theorem g0_nextBridges {h : Nat} {a : Nat → Nat} {dI dJ : ClassId} {vIs : Int32} {vLi : Int32} {vGc : Int32} {vSo : Int32} {vSc : Int32} {vLe : Int32} {fNu : Nat → Int32} {fCo : Nat → Int32} {fIx : Nat → Int32} {fNe : Nat → Int32} {fDi : Nat → Int32} {fBe : Nat → Int64} {fCr : Nat → Int32} {fCw : Nat → Int32} {fDo : Nat → Int32} {fCh : Nat → Int32} {fNx : Nat → Int32} (hC : CallFix p m c cc nL s args lw_all RX0) (hK : va_K D vwCl (kB dI dJ) s) (hP : va_P D vwCl (bbW h a dI dJ vIs vLi vGc vSo vSc vLe fNu fCo fIx fNe fDi fBe fCr fCw fDo fCh fNx) H) (hdg : decode cc pc = .ok (.getfield 41, 3)) (kk : W p l e R s m args below meth c H locs cells slots Q (F0 m (pc + 3) ls (.ref (a 10) :: rest))) : W p l e R s m args below meth c H locs cells slots Q (F0 m pc ls (.ref h :: rest)) := va_get (D := D) (ci := 0) (v := .ref (a 10)) (C := RX0) (T := TX0) (N := 17) hC.1 hC.2.1 hC.2.2.2.2 in_X0 hC.2.2.2.1 hK hP 0 rfl rfl 16 (by decide) (hC.2.2.2.2 _ q58) (fun _ h9 => h9) rfl hdg kk
theorem l0_number {h : Nat} {a : Nat → Nat} {dI dJ : ClassId} {vIs : Int32} {vLi : Int32} {vGc : Int32} {vSo : Int32} {vSc : Int32} {vLe : Int32} {fNu : Nat → Int32} {fCo : Nat → Int32} {fIx : Nat → Int32} {fNe : Nat → Int32} {fDi : Nat → Int32} {fBe : Nat → Int64} {fCr : Nat → Int32} {fCw : Nat → Int32} {fDo : Nat → Int32} {fCh : Nat → Int32} {fNx : Nat → Int32} {j : Nat} (hC : CallFix p m c cc nL s args lw_all RX0) (hK : va_K D vwCl (kB dI dJ) s) (hP : va_P D vwCl (bbW h a dI dJ vIs vLi vGc vSo vSc vLe fNu fCo fIx fNe fDi fBe fCr fCw fDo fCh fNx) H) (hj : j < 36) (hdg : decode cc pc = .ok (.iaload, 1)) (kk : W p l e R s m args below meth c H locs cells slots Q (F0 m (pc + 1) ls (.int (fNu j) :: rest))) : W p l e R s m args below meth c H locs cells slots Q (F0 m pc ls (.int (nI j) :: .ref (a 0) :: rest)) := va_iald hC.1 hC.2.1 hK hP 1 0 rfl rfl (vp_in_nI hj (by decide)) hdg (by rw [nI_clamp (by omega)]; exact kk)
theorem s0_number {h : Nat} {a : Nat → Nat} {dI dJ : ClassId} {vIs : Int32} {vLi : Int32} {vGc : Int32} {vSo : Int32} {vSc : Int32} {vLe : Int32} {fNu : Nat → Int32} {fCo : Nat → Int32} {fIx : Nat → Int32} {fNe : Nat → Int32} {fDi : Nat → Int32} {fBe : Nat → Int64} {fCr : Nat → Int32} {fCw : Nat → Int32} {fDo : Nat → Int32} {fCh : Nat → Int32} {fNx : Nat → Int32} {j : Nat} {x : Int32} (hC : CallFix p m c cc nL s args lw_all RX0) (hK : va_K D vwCl (kB dI dJ) s) (hP : va_P D vwCl (bbW h a dI dJ vIs vLi vGc vSo vSc vLe fNu fCo fIx fNe fDi fBe fCr fCw fDo fCh fNx) H) (hD : va_D A (bbW h a dI dJ vIs vLi vGc vSo vSc vLe fNu fCo fIx fNe fDi fBe fCr fCw fDo fCh fNx)) (hS : va_S A H0 H locs) (hj : j < 36) (hdg : decode cc pc = .ok (.iastore, 1)) (kk : ∀ (H1 : Heap) (locs1 : List Loc), va_P D vwCl (bbW h a dI dJ vIs vLi vGc vSo vSc vLe (upd fNu j x) fCo fIx fNe fDi fBe fCr fCw fDo fCh fNx) H1 → va_D A (bbW h a dI dJ vIs vLi vGc vSo vSc vLe (upd fNu j x) fCo fIx fNe fDi fBe fCr fCw fDo fCh fNx) → va_S A H0 H1 locs1 → W p l e R s m args below meth c H1 locs1 cells slots Q (F0 m (pc + 1) ls rest)) : W p l e R s m args below meth c H locs cells slots Q (F0 m pc ls (.int x :: .int (nI j) :: .ref (a 0) :: rest)) := by
  refine va_iast hC.1 hC.2.1 hK hP hD hS 1 0 rfl rfl (vp_in_nI hj (by decide)) hdg (fun H1 locs1 a1 a2 a3 => ?_)
  rw [nI_clamp (by omega)] at a1 a2
  exact kk H1 locs1 a1 a2 a3
theorem l0_cellOf {h : Nat} {a : Nat → Nat} {dI dJ : ClassId} {vIs : Int32} {vLi : Int32} {vGc : Int32} {vSo : Int32} {vSc : Int32} {vLe : Int32} {fNu : Nat → Int32} {fCo : Nat → Int32} {fIx : Nat → Int32} {fNe : Nat → Int32} {fDi : Nat → Int32} {fBe : Nat → Int64} {fCr : Nat → Int32} {fCw : Nat → Int32} {fDo : Nat → Int32} {fCh : Nat → Int32} {fNx : Nat → Int32} {j : Nat} (hC : CallFix p m c cc nL s args lw_all RX0) (hK : va_K D vwCl (kB dI dJ) s) (hP : va_P D vwCl (bbW h a dI dJ vIs vLi vGc vSo vSc vLe fNu fCo fIx fNe fDi fBe fCr fCw fDo fCh fNx) H) (hj : j < 8) (hdg : decode cc pc = .ok (.iaload, 1)) (kk : W p l e R s m args below meth c H locs cells slots Q (F0 m (pc + 1) ls (.int (fCo j) :: rest))) : W p l e R s m args below meth c H locs cells slots Q (F0 m pc ls (.int (nI j) :: .ref (a 1) :: rest)) := va_iald hC.1 hC.2.1 hK hP 2 0 rfl rfl (vp_in_nI hj (by decide)) hdg (by rw [nI_clamp (by omega)]; exact kk)
theorem s0_cellOf {h : Nat} {a : Nat → Nat} {dI dJ : ClassId} {vIs : Int32} {vLi : Int32} {vGc : Int32} {vSo : Int32} {vSc : Int32} {vLe : Int32} {fNu : Nat → Int32} {fCo : Nat → Int32} {fIx : Nat → Int32} {fNe : Nat → Int32} {fDi : Nat → Int32} {fBe : Nat → Int64} {fCr : Nat → Int32} {fCw : Nat → Int32} {fDo : Nat → Int32} {fCh : Nat → Int32} {fNx : Nat → Int32} {j : Nat} {x : Int32} (hC : CallFix p m c cc nL s args lw_all RX0) (hK : va_K D vwCl (kB dI dJ) s) (hP : va_P D vwCl (bbW h a dI dJ vIs vLi vGc vSo vSc vLe fNu fCo fIx fNe fDi fBe fCr fCw fDo fCh fNx) H) (hD : va_D A (bbW h a dI dJ vIs vLi vGc vSo vSc vLe fNu fCo fIx fNe fDi fBe fCr fCw fDo fCh fNx)) (hS : va_S A H0 H locs) (hj : j < 8) (hdg : decode cc pc = .ok (.iastore, 1)) (kk : ∀ (H1 : Heap) (locs1 : List Loc), va_P D vwCl (bbW h a dI dJ vIs vLi vGc vSo vSc vLe fNu (upd fCo j x) fIx fNe fDi fBe fCr fCw fDo fCh fNx) H1 → va_D A (bbW h a dI dJ vIs vLi vGc vSo vSc vLe fNu (upd fCo j x) fIx fNe fDi fBe fCr fCw fDo fCh fNx) → va_S A H0 H1 locs1 → W p l e R s m args below meth c H1 locs1 cells slots Q (F0 m (pc + 1) ls rest)) : W p l e R s m args below meth c H locs cells slots Q (F0 m pc ls (.int x :: .int (nI j) :: .ref (a 1) :: rest)) := by
  refine va_iast hC.1 hC.2.1 hK hP hD hS 2 0 rfl rfl (vp_in_nI hj (by decide)) hdg (fun H1 locs1 a1 a2 a3 => ?_)
  rw [nI_clamp (by omega)] at a1 a2
  exact kk H1 locs1 a1 a2 a3
theorem l0_indexAt {h : Nat} {a : Nat → Nat} {dI dJ : ClassId} {vIs : Int32} {vLi : Int32} {vGc : Int32} {vSo : Int32} {vSc : Int32} {vLe : Int32} {fNu : Nat → Int32} {fCo : Nat → Int32} {fIx : Nat → Int32} {fNe : Nat → Int32} {fDi : Nat → Int32} {fBe : Nat → Int64} {fCr : Nat → Int32} {fCw : Nat → Int32} {fDo : Nat → Int32} {fCh : Nat → Int32} {fNx : Nat → Int32} {j : Nat} (hC : CallFix p m c cc nL s args lw_all RX0) (hK : va_K D vwCl (kB dI dJ) s) (hP : va_P D vwCl (bbW h a dI dJ vIs vLi vGc vSo vSc vLe fNu fCo fIx fNe fDi fBe fCr fCw fDo fCh fNx) H) (hj : j < 36) (hdg : decode cc pc = .ok (.iaload, 1)) (kk : W p l e R s m args below meth c H locs cells slots Q (F0 m (pc + 1) ls (.int (fIx j) :: rest))) : W p l e R s m args below meth c H locs cells slots Q (F0 m pc ls (.int (nI j) :: .ref (a 2) :: rest)) := va_iald hC.1 hC.2.1 hK hP 3 0 rfl rfl (vp_in_nI hj (by decide)) hdg (by rw [nI_clamp (by omega)]; exact kk)
theorem s0_indexAt {h : Nat} {a : Nat → Nat} {dI dJ : ClassId} {vIs : Int32} {vLi : Int32} {vGc : Int32} {vSo : Int32} {vSc : Int32} {vLe : Int32} {fNu : Nat → Int32} {fCo : Nat → Int32} {fIx : Nat → Int32} {fNe : Nat → Int32} {fDi : Nat → Int32} {fBe : Nat → Int64} {fCr : Nat → Int32} {fCw : Nat → Int32} {fDo : Nat → Int32} {fCh : Nat → Int32} {fNx : Nat → Int32} {j : Nat} {x : Int32} (hC : CallFix p m c cc nL s args lw_all RX0) (hK : va_K D vwCl (kB dI dJ) s) (hP : va_P D vwCl (bbW h a dI dJ vIs vLi vGc vSo vSc vLe fNu fCo fIx fNe fDi fBe fCr fCw fDo fCh fNx) H) (hD : va_D A (bbW h a dI dJ vIs vLi vGc vSo vSc vLe fNu fCo fIx fNe fDi fBe fCr fCw fDo fCh fNx)) (hS : va_S A H0 H locs) (hj : j < 36) (hdg : decode cc pc = .ok (.iastore, 1)) (kk : ∀ (H1 : Heap) (locs1 : List Loc), va_P D vwCl (bbW h a dI dJ vIs vLi vGc vSo vSc vLe fNu fCo (upd fIx j x) fNe fDi fBe fCr fCw fDo fCh fNx) H1 → va_D A (bbW h a dI dJ vIs vLi vGc vSo vSc vLe fNu fCo (upd fIx j x) fNe fDi fBe fCr fCw fDo fCh fNx) → va_S A H0 H1 locs1 → W p l e R s m args below meth c H1 locs1 cells slots Q (F0 m (pc + 1) ls rest)) : W p l e R s m args below meth c H locs cells slots Q (F0 m pc ls (.int x :: .int (nI j) :: .ref (a 2) :: rest)) := by
  refine va_iast hC.1 hC.2.1 hK hP hD hS 3 0 rfl rfl (vp_in_nI hj (by decide)) hdg (fun H1 locs1 a1 a2 a3 => ?_)
  rw [nI_clamp (by omega)] at a1 a2
  exact kk H1 locs1 a1 a2 a3
theorem l0_near {h : Nat} {a : Nat → Nat} {dI dJ : ClassId} {vIs : Int32} {vLi : Int32} {vGc : Int32} {vSo : Int32} {vSc : Int32} {vLe : Int32} {fNu : Nat → Int32} {fCo : Nat → Int32} {fIx : Nat → Int32} {fNe : Nat → Int32} {fDi : Nat → Int32} {fBe : Nat → Int64} {fCr : Nat → Int32} {fCw : Nat → Int32} {fDo : Nat → Int32} {fCh : Nat → Int32} {fNx : Nat → Int32} {j : Nat} (hC : CallFix p m c cc nL s args lw_all RX0) (hK : va_K D vwCl (kB dI dJ) s) (hP : va_P D vwCl (bbW h a dI dJ vIs vLi vGc vSo vSc vLe fNu fCo fIx fNe fDi fBe fCr fCw fDo fCh fNx) H) (hj : j < 16) (hdg : decode cc pc = .ok (.iaload, 1)) (kk : W p l e R s m args below meth c H locs cells slots Q (F0 m (pc + 1) ls (.int (fNe j) :: rest))) : W p l e R s m args below meth c H locs cells slots Q (F0 m pc ls (.int (nI j) :: .ref (a 3) :: rest)) := va_iald hC.1 hC.2.1 hK hP 4 0 rfl rfl (vp_in_nI hj (by decide)) hdg (by rw [nI_clamp (by omega)]; exact kk)
theorem s0_near {h : Nat} {a : Nat → Nat} {dI dJ : ClassId} {vIs : Int32} {vLi : Int32} {vGc : Int32} {vSo : Int32} {vSc : Int32} {vLe : Int32} {fNu : Nat → Int32} {fCo : Nat → Int32} {fIx : Nat → Int32} {fNe : Nat → Int32} {fDi : Nat → Int32} {fBe : Nat → Int64} {fCr : Nat → Int32} {fCw : Nat → Int32} {fDo : Nat → Int32} {fCh : Nat → Int32} {fNx : Nat → Int32} {j : Nat} {x : Int32} (hC : CallFix p m c cc nL s args lw_all RX0) (hK : va_K D vwCl (kB dI dJ) s) (hP : va_P D vwCl (bbW h a dI dJ vIs vLi vGc vSo vSc vLe fNu fCo fIx fNe fDi fBe fCr fCw fDo fCh fNx) H) (hD : va_D A (bbW h a dI dJ vIs vLi vGc vSo vSc vLe fNu fCo fIx fNe fDi fBe fCr fCw fDo fCh fNx)) (hS : va_S A H0 H locs) (hj : j < 16) (hdg : decode cc pc = .ok (.iastore, 1)) (kk : ∀ (H1 : Heap) (locs1 : List Loc), va_P D vwCl (bbW h a dI dJ vIs vLi vGc vSo vSc vLe fNu fCo fIx (upd fNe j x) fDi fBe fCr fCw fDo fCh fNx) H1 → va_D A (bbW h a dI dJ vIs vLi vGc vSo vSc vLe fNu fCo fIx (upd fNe j x) fDi fBe fCr fCw fDo fCh fNx) → va_S A H0 H1 locs1 → W p l e R s m args below meth c H1 locs1 cells slots Q (F0 m (pc + 1) ls rest)) : W p l e R s m args below meth c H locs cells slots Q (F0 m pc ls (.int x :: .int (nI j) :: .ref (a 3) :: rest)) := by
  refine va_iast hC.1 hC.2.1 hK hP hD hS 4 0 rfl rfl (vp_in_nI hj (by decide)) hdg (fun H1 locs1 a1 a2 a3 => ?_)
  rw [nI_clamp (by omega)] at a1 a2
  exact kk H1 locs1 a1 a2 a3
theorem l0_distant {h : Nat} {a : Nat → Nat} {dI dJ : ClassId} {vIs : Int32} {vLi : Int32} {vGc : Int32} {vSo : Int32} {vSc : Int32} {vLe : Int32} {fNu : Nat → Int32} {fCo : Nat → Int32} {fIx : Nat → Int32} {fNe : Nat → Int32} {fDi : Nat → Int32} {fBe : Nat → Int64} {fCr : Nat → Int32} {fCw : Nat → Int32} {fDo : Nat → Int32} {fCh : Nat → Int32} {fNx : Nat → Int32} {j : Nat} (hC : CallFix p m c cc nL s args lw_all RX0) (hK : va_K D vwCl (kB dI dJ) s) (hP : va_P D vwCl (bbW h a dI dJ vIs vLi vGc vSo vSc vLe fNu fCo fIx fNe fDi fBe fCr fCw fDo fCh fNx) H) (hj : j < 16) (hdg : decode cc pc = .ok (.iaload, 1)) (kk : W p l e R s m args below meth c H locs cells slots Q (F0 m (pc + 1) ls (.int (fDi j) :: rest))) : W p l e R s m args below meth c H locs cells slots Q (F0 m pc ls (.int (nI j) :: .ref (a 4) :: rest)) := va_iald hC.1 hC.2.1 hK hP 5 0 rfl rfl (vp_in_nI hj (by decide)) hdg (by rw [nI_clamp (by omega)]; exact kk)
theorem s0_distant {h : Nat} {a : Nat → Nat} {dI dJ : ClassId} {vIs : Int32} {vLi : Int32} {vGc : Int32} {vSo : Int32} {vSc : Int32} {vLe : Int32} {fNu : Nat → Int32} {fCo : Nat → Int32} {fIx : Nat → Int32} {fNe : Nat → Int32} {fDi : Nat → Int32} {fBe : Nat → Int64} {fCr : Nat → Int32} {fCw : Nat → Int32} {fDo : Nat → Int32} {fCh : Nat → Int32} {fNx : Nat → Int32} {j : Nat} {x : Int32} (hC : CallFix p m c cc nL s args lw_all RX0) (hK : va_K D vwCl (kB dI dJ) s) (hP : va_P D vwCl (bbW h a dI dJ vIs vLi vGc vSo vSc vLe fNu fCo fIx fNe fDi fBe fCr fCw fDo fCh fNx) H) (hD : va_D A (bbW h a dI dJ vIs vLi vGc vSo vSc vLe fNu fCo fIx fNe fDi fBe fCr fCw fDo fCh fNx)) (hS : va_S A H0 H locs) (hj : j < 16) (hdg : decode cc pc = .ok (.iastore, 1)) (kk : ∀ (H1 : Heap) (locs1 : List Loc), va_P D vwCl (bbW h a dI dJ vIs vLi vGc vSo vSc vLe fNu fCo fIx fNe (upd fDi j x) fBe fCr fCw fDo fCh fNx) H1 → va_D A (bbW h a dI dJ vIs vLi vGc vSo vSc vLe fNu fCo fIx fNe (upd fDi j x) fBe fCr fCw fDo fCh fNx) → va_S A H0 H1 locs1 → W p l e R s m args below meth c H1 locs1 cells slots Q (F0 m (pc + 1) ls rest)) : W p l e R s m args below meth c H locs cells slots Q (F0 m pc ls (.int x :: .int (nI j) :: .ref (a 4) :: rest)) := by
  refine va_iast hC.1 hC.2.1 hK hP hD hS 5 0 rfl rfl (vp_in_nI hj (by decide)) hdg (fun H1 locs1 a1 a2 a3 => ?_)
  rw [nI_clamp (by omega)] at a1 a2
  exact kk H1 locs1 a1 a2 a3
theorem l0_between {h : Nat} {a : Nat → Nat} {dI dJ : ClassId} {vIs : Int32} {vLi : Int32} {vGc : Int32} {vSo : Int32} {vSc : Int32} {vLe : Int32} {fNu : Nat → Int32} {fCo : Nat → Int32} {fIx : Nat → Int32} {fNe : Nat → Int32} {fDi : Nat → Int32} {fBe : Nat → Int64} {fCr : Nat → Int32} {fCw : Nat → Int32} {fDo : Nat → Int32} {fCh : Nat → Int32} {fNx : Nat → Int32} {j : Nat} (hC : CallFix p m c cc nL s args lw_all RX0) (hK : va_K D vwCl (kB dI dJ) s) (hP : va_P D vwCl (bbW h a dI dJ vIs vLi vGc vSo vSc vLe fNu fCo fIx fNe fDi fBe fCr fCw fDo fCh fNx) H) (hj : j < 16) (hdg : decode cc pc = .ok (.laload, 1)) (kk : W p l e R s m args below meth c H locs cells slots Q (F0 m (pc + 1) ls (.long (fBe j) :: rest))) : W p l e R s m args below meth c H locs cells slots Q (F0 m pc ls (.int (nI j) :: .ref (a 5) :: rest)) := va_lald hC.1 hC.2.1 hK hP 6 1 rfl rfl (vp_in_nI hj (by decide)) hdg (by rw [nI_clamp (by omega)]; exact kk)
theorem s0_between {h : Nat} {a : Nat → Nat} {dI dJ : ClassId} {vIs : Int32} {vLi : Int32} {vGc : Int32} {vSo : Int32} {vSc : Int32} {vLe : Int32} {fNu : Nat → Int32} {fCo : Nat → Int32} {fIx : Nat → Int32} {fNe : Nat → Int32} {fDi : Nat → Int32} {fBe : Nat → Int64} {fCr : Nat → Int32} {fCw : Nat → Int32} {fDo : Nat → Int32} {fCh : Nat → Int32} {fNx : Nat → Int32} {j : Nat} {x : Int64} (hC : CallFix p m c cc nL s args lw_all RX0) (hK : va_K D vwCl (kB dI dJ) s) (hP : va_P D vwCl (bbW h a dI dJ vIs vLi vGc vSo vSc vLe fNu fCo fIx fNe fDi fBe fCr fCw fDo fCh fNx) H) (hD : va_D A (bbW h a dI dJ vIs vLi vGc vSo vSc vLe fNu fCo fIx fNe fDi fBe fCr fCw fDo fCh fNx)) (hS : va_S A H0 H locs) (hj : j < 16) (hdg : decode cc pc = .ok (.lastore, 1)) (kk : ∀ (H1 : Heap) (locs1 : List Loc), va_P D vwCl (bbW h a dI dJ vIs vLi vGc vSo vSc vLe fNu fCo fIx fNe fDi (vp_updL fBe j x) fCr fCw fDo fCh fNx) H1 → va_D A (bbW h a dI dJ vIs vLi vGc vSo vSc vLe fNu fCo fIx fNe fDi (vp_updL fBe j x) fCr fCw fDo fCh fNx) → va_S A H0 H1 locs1 → W p l e R s m args below meth c H1 locs1 cells slots Q (F0 m (pc + 1) ls rest)) : W p l e R s m args below meth c H locs cells slots Q (F0 m pc ls (.long x :: .int (nI j) :: .ref (a 5) :: rest)) := by
  refine va_last hC.1 hC.2.1 hK hP hD hS 6 1 rfl rfl (vp_in_nI hj (by decide)) hdg (fun H1 locs1 a1 a2 a3 => ?_)
  rw [nI_clamp (by omega)] at a1 a2
  exact kk H1 locs1 a1 a2 a3
theorem l0_crossing {h : Nat} {a : Nat → Nat} {dI dJ : ClassId} {vIs : Int32} {vLi : Int32} {vGc : Int32} {vSo : Int32} {vSc : Int32} {vLe : Int32} {fNu : Nat → Int32} {fCo : Nat → Int32} {fIx : Nat → Int32} {fNe : Nat → Int32} {fDi : Nat → Int32} {fBe : Nat → Int64} {fCr : Nat → Int32} {fCw : Nat → Int32} {fDo : Nat → Int32} {fCh : Nat → Int32} {fNx : Nat → Int32} {j : Nat} (hC : CallFix p m c cc nL s args lw_all RX0) (hK : va_K D vwCl (kB dI dJ) s) (hP : va_P D vwCl (bbW h a dI dJ vIs vLi vGc vSo vSc vLe fNu fCo fIx fNe fDi fBe fCr fCw fDo fCh fNx) H) (hj : j < 16) (hdg : decode cc pc = .ok (.iaload, 1)) (kk : W p l e R s m args below meth c H locs cells slots Q (F0 m (pc + 1) ls (.int (fCr j) :: rest))) : W p l e R s m args below meth c H locs cells slots Q (F0 m pc ls (.int (nI j) :: .ref (a 6) :: rest)) := va_iald hC.1 hC.2.1 hK hP 7 0 rfl rfl (vp_in_nI hj (by decide)) hdg (by rw [nI_clamp (by omega)]; exact kk)
theorem s0_crossing {h : Nat} {a : Nat → Nat} {dI dJ : ClassId} {vIs : Int32} {vLi : Int32} {vGc : Int32} {vSo : Int32} {vSc : Int32} {vLe : Int32} {fNu : Nat → Int32} {fCo : Nat → Int32} {fIx : Nat → Int32} {fNe : Nat → Int32} {fDi : Nat → Int32} {fBe : Nat → Int64} {fCr : Nat → Int32} {fCw : Nat → Int32} {fDo : Nat → Int32} {fCh : Nat → Int32} {fNx : Nat → Int32} {j : Nat} {x : Int32} (hC : CallFix p m c cc nL s args lw_all RX0) (hK : va_K D vwCl (kB dI dJ) s) (hP : va_P D vwCl (bbW h a dI dJ vIs vLi vGc vSo vSc vLe fNu fCo fIx fNe fDi fBe fCr fCw fDo fCh fNx) H) (hD : va_D A (bbW h a dI dJ vIs vLi vGc vSo vSc vLe fNu fCo fIx fNe fDi fBe fCr fCw fDo fCh fNx)) (hS : va_S A H0 H locs) (hj : j < 16) (hdg : decode cc pc = .ok (.iastore, 1)) (kk : ∀ (H1 : Heap) (locs1 : List Loc), va_P D vwCl (bbW h a dI dJ vIs vLi vGc vSo vSc vLe fNu fCo fIx fNe fDi fBe (upd fCr j x) fCw fDo fCh fNx) H1 → va_D A (bbW h a dI dJ vIs vLi vGc vSo vSc vLe fNu fCo fIx fNe fDi fBe (upd fCr j x) fCw fDo fCh fNx) → va_S A H0 H1 locs1 → W p l e R s m args below meth c H1 locs1 cells slots Q (F0 m (pc + 1) ls rest)) : W p l e R s m args below meth c H locs cells slots Q (F0 m pc ls (.int x :: .int (nI j) :: .ref (a 6) :: rest)) := by
  refine va_iast hC.1 hC.2.1 hK hP hD hS 7 0 rfl rfl (vp_in_nI hj (by decide)) hdg (fun H1 locs1 a1 a2 a3 => ?_)
  rw [nI_clamp (by omega)] at a1 a2
  exact kk H1 locs1 a1 a2 a3
theorem l0_countWith {h : Nat} {a : Nat → Nat} {dI dJ : ClassId} {vIs : Int32} {vLi : Int32} {vGc : Int32} {vSo : Int32} {vSc : Int32} {vLe : Int32} {fNu : Nat → Int32} {fCo : Nat → Int32} {fIx : Nat → Int32} {fNe : Nat → Int32} {fDi : Nat → Int32} {fBe : Nat → Int64} {fCr : Nat → Int32} {fCw : Nat → Int32} {fDo : Nat → Int32} {fCh : Nat → Int32} {fNx : Nat → Int32} {j : Nat} (hC : CallFix p m c cc nL s args lw_all RX0) (hK : va_K D vwCl (kB dI dJ) s) (hP : va_P D vwCl (bbW h a dI dJ vIs vLi vGc vSo vSc vLe fNu fCo fIx fNe fDi fBe fCr fCw fDo fCh fNx) H) (hj : j < 24) (hdg : decode cc pc = .ok (.iaload, 1)) (kk : W p l e R s m args below meth c H locs cells slots Q (F0 m (pc + 1) ls (.int (fCw j) :: rest))) : W p l e R s m args below meth c H locs cells slots Q (F0 m pc ls (.int (nI j) :: .ref (a 7) :: rest)) := va_iald hC.1 hC.2.1 hK hP 8 0 rfl rfl (vp_in_nI hj (by decide)) hdg (by rw [nI_clamp (by omega)]; exact kk)
theorem s0_countWith {h : Nat} {a : Nat → Nat} {dI dJ : ClassId} {vIs : Int32} {vLi : Int32} {vGc : Int32} {vSo : Int32} {vSc : Int32} {vLe : Int32} {fNu : Nat → Int32} {fCo : Nat → Int32} {fIx : Nat → Int32} {fNe : Nat → Int32} {fDi : Nat → Int32} {fBe : Nat → Int64} {fCr : Nat → Int32} {fCw : Nat → Int32} {fDo : Nat → Int32} {fCh : Nat → Int32} {fNx : Nat → Int32} {j : Nat} {x : Int32} (hC : CallFix p m c cc nL s args lw_all RX0) (hK : va_K D vwCl (kB dI dJ) s) (hP : va_P D vwCl (bbW h a dI dJ vIs vLi vGc vSo vSc vLe fNu fCo fIx fNe fDi fBe fCr fCw fDo fCh fNx) H) (hD : va_D A (bbW h a dI dJ vIs vLi vGc vSo vSc vLe fNu fCo fIx fNe fDi fBe fCr fCw fDo fCh fNx)) (hS : va_S A H0 H locs) (hj : j < 24) (hdg : decode cc pc = .ok (.iastore, 1)) (kk : ∀ (H1 : Heap) (locs1 : List Loc), va_P D vwCl (bbW h a dI dJ vIs vLi vGc vSo vSc vLe fNu fCo fIx fNe fDi fBe fCr (upd fCw j x) fDo fCh fNx) H1 → va_D A (bbW h a dI dJ vIs vLi vGc vSo vSc vLe fNu fCo fIx fNe fDi fBe fCr (upd fCw j x) fDo fCh fNx) → va_S A H0 H1 locs1 → W p l e R s m args below meth c H1 locs1 cells slots Q (F0 m (pc + 1) ls rest)) : W p l e R s m args below meth c H locs cells slots Q (F0 m pc ls (.int x :: .int (nI j) :: .ref (a 7) :: rest)) := by
  refine va_iast hC.1 hC.2.1 hK hP hD hS 8 0 rfl rfl (vp_in_nI hj (by decide)) hdg (fun H1 locs1 a1 a2 a3 => ?_)
  rw [nI_clamp (by omega)] at a1 a2
  exact kk H1 locs1 a1 a2 a3
theorem l0_domains {h : Nat} {a : Nat → Nat} {dI dJ : ClassId} {vIs : Int32} {vLi : Int32} {vGc : Int32} {vSo : Int32} {vSc : Int32} {vLe : Int32} {fNu : Nat → Int32} {fCo : Nat → Int32} {fIx : Nat → Int32} {fNe : Nat → Int32} {fDi : Nat → Int32} {fBe : Nat → Int64} {fCr : Nat → Int32} {fCw : Nat → Int32} {fDo : Nat → Int32} {fCh : Nat → Int32} {fNx : Nat → Int32} {j : Nat} (hC : CallFix p m c cc nL s args lw_all RX0) (hK : va_K D vwCl (kB dI dJ) s) (hP : va_P D vwCl (bbW h a dI dJ vIs vLi vGc vSo vSc vLe fNu fCo fIx fNe fDi fBe fCr fCw fDo fCh fNx) H) (hj : j < 10) (hdg : decode cc pc = .ok (.iaload, 1)) (kk : W p l e R s m args below meth c H locs cells slots Q (F0 m (pc + 1) ls (.int (fDo j) :: rest))) : W p l e R s m args below meth c H locs cells slots Q (F0 m pc ls (.int (nI j) :: .ref (a 8) :: rest)) := va_iald hC.1 hC.2.1 hK hP 9 0 rfl rfl (vp_in_nI hj (by decide)) hdg (by rw [nI_clamp (by omega)]; exact kk)
theorem s0_domains {h : Nat} {a : Nat → Nat} {dI dJ : ClassId} {vIs : Int32} {vLi : Int32} {vGc : Int32} {vSo : Int32} {vSc : Int32} {vLe : Int32} {fNu : Nat → Int32} {fCo : Nat → Int32} {fIx : Nat → Int32} {fNe : Nat → Int32} {fDi : Nat → Int32} {fBe : Nat → Int64} {fCr : Nat → Int32} {fCw : Nat → Int32} {fDo : Nat → Int32} {fCh : Nat → Int32} {fNx : Nat → Int32} {j : Nat} {x : Int32} (hC : CallFix p m c cc nL s args lw_all RX0) (hK : va_K D vwCl (kB dI dJ) s) (hP : va_P D vwCl (bbW h a dI dJ vIs vLi vGc vSo vSc vLe fNu fCo fIx fNe fDi fBe fCr fCw fDo fCh fNx) H) (hD : va_D A (bbW h a dI dJ vIs vLi vGc vSo vSc vLe fNu fCo fIx fNe fDi fBe fCr fCw fDo fCh fNx)) (hS : va_S A H0 H locs) (hj : j < 10) (hdg : decode cc pc = .ok (.iastore, 1)) (kk : ∀ (H1 : Heap) (locs1 : List Loc), va_P D vwCl (bbW h a dI dJ vIs vLi vGc vSo vSc vLe fNu fCo fIx fNe fDi fBe fCr fCw (upd fDo j x) fCh fNx) H1 → va_D A (bbW h a dI dJ vIs vLi vGc vSo vSc vLe fNu fCo fIx fNe fDi fBe fCr fCw (upd fDo j x) fCh fNx) → va_S A H0 H1 locs1 → W p l e R s m args below meth c H1 locs1 cells slots Q (F0 m (pc + 1) ls rest)) : W p l e R s m args below meth c H locs cells slots Q (F0 m pc ls (.int x :: .int (nI j) :: .ref (a 8) :: rest)) := by
  refine va_iast hC.1 hC.2.1 hK hP hD hS 9 0 rfl rfl (vp_in_nI hj (by decide)) hdg (fun H1 locs1 a1 a2 a3 => ?_)
  rw [nI_clamp (by omega)] at a1 a2
  exact kk H1 locs1 a1 a2 a3
theorem l0_choiceGap {h : Nat} {a : Nat → Nat} {dI dJ : ClassId} {vIs : Int32} {vLi : Int32} {vGc : Int32} {vSo : Int32} {vSc : Int32} {vLe : Int32} {fNu : Nat → Int32} {fCo : Nat → Int32} {fIx : Nat → Int32} {fNe : Nat → Int32} {fDi : Nat → Int32} {fBe : Nat → Int64} {fCr : Nat → Int32} {fCw : Nat → Int32} {fDo : Nat → Int32} {fCh : Nat → Int32} {fNx : Nat → Int32} {j : Nat} (hC : CallFix p m c cc nL s args lw_all RX0) (hK : va_K D vwCl (kB dI dJ) s) (hP : va_P D vwCl (bbW h a dI dJ vIs vLi vGc vSo vSc vLe fNu fCo fIx fNe fDi fBe fCr fCw fDo fCh fNx) H) (hj : j < 10) (hdg : decode cc pc = .ok (.iaload, 1)) (kk : W p l e R s m args below meth c H locs cells slots Q (F0 m (pc + 1) ls (.int (fCh j) :: rest))) : W p l e R s m args below meth c H locs cells slots Q (F0 m pc ls (.int (nI j) :: .ref (a 9) :: rest)) := va_iald hC.1 hC.2.1 hK hP 10 0 rfl rfl (vp_in_nI hj (by decide)) hdg (by rw [nI_clamp (by omega)]; exact kk)
theorem s0_choiceGap {h : Nat} {a : Nat → Nat} {dI dJ : ClassId} {vIs : Int32} {vLi : Int32} {vGc : Int32} {vSo : Int32} {vSc : Int32} {vLe : Int32} {fNu : Nat → Int32} {fCo : Nat → Int32} {fIx : Nat → Int32} {fNe : Nat → Int32} {fDi : Nat → Int32} {fBe : Nat → Int64} {fCr : Nat → Int32} {fCw : Nat → Int32} {fDo : Nat → Int32} {fCh : Nat → Int32} {fNx : Nat → Int32} {j : Nat} {x : Int32} (hC : CallFix p m c cc nL s args lw_all RX0) (hK : va_K D vwCl (kB dI dJ) s) (hP : va_P D vwCl (bbW h a dI dJ vIs vLi vGc vSo vSc vLe fNu fCo fIx fNe fDi fBe fCr fCw fDo fCh fNx) H) (hD : va_D A (bbW h a dI dJ vIs vLi vGc vSo vSc vLe fNu fCo fIx fNe fDi fBe fCr fCw fDo fCh fNx)) (hS : va_S A H0 H locs) (hj : j < 10) (hdg : decode cc pc = .ok (.iastore, 1)) (kk : ∀ (H1 : Heap) (locs1 : List Loc), va_P D vwCl (bbW h a dI dJ vIs vLi vGc vSo vSc vLe fNu fCo fIx fNe fDi fBe fCr fCw fDo (upd fCh j x) fNx) H1 → va_D A (bbW h a dI dJ vIs vLi vGc vSo vSc vLe fNu fCo fIx fNe fDi fBe fCr fCw fDo (upd fCh j x) fNx) → va_S A H0 H1 locs1 → W p l e R s m args below meth c H1 locs1 cells slots Q (F0 m (pc + 1) ls rest)) : W p l e R s m args below meth c H locs cells slots Q (F0 m pc ls (.int x :: .int (nI j) :: .ref (a 9) :: rest)) := by
  refine va_iast hC.1 hC.2.1 hK hP hD hS 10 0 rfl rfl (vp_in_nI hj (by decide)) hdg (fun H1 locs1 a1 a2 a3 => ?_)
  rw [nI_clamp (by omega)] at a1 a2
  exact kk H1 locs1 a1 a2 a3
theorem l0_nextBridges {h : Nat} {a : Nat → Nat} {dI dJ : ClassId} {vIs : Int32} {vLi : Int32} {vGc : Int32} {vSo : Int32} {vSc : Int32} {vLe : Int32} {fNu : Nat → Int32} {fCo : Nat → Int32} {fIx : Nat → Int32} {fNe : Nat → Int32} {fDi : Nat → Int32} {fBe : Nat → Int64} {fCr : Nat → Int32} {fCw : Nat → Int32} {fDo : Nat → Int32} {fCh : Nat → Int32} {fNx : Nat → Int32} {j : Nat} (hC : CallFix p m c cc nL s args lw_all RX0) (hK : va_K D vwCl (kB dI dJ) s) (hP : va_P D vwCl (bbW h a dI dJ vIs vLi vGc vSo vSc vLe fNu fCo fIx fNe fDi fBe fCr fCw fDo fCh fNx) H) (hj : j < 10) (hdg : decode cc pc = .ok (.iaload, 1)) (kk : W p l e R s m args below meth c H locs cells slots Q (F0 m (pc + 1) ls (.int (fNx j) :: rest))) : W p l e R s m args below meth c H locs cells slots Q (F0 m pc ls (.int (nI j) :: .ref (a 10) :: rest)) := va_iald hC.1 hC.2.1 hK hP 11 0 rfl rfl (vp_in_nI hj (by decide)) hdg (by rw [nI_clamp (by omega)]; exact kk)
theorem s0_nextBridges {h : Nat} {a : Nat → Nat} {dI dJ : ClassId} {vIs : Int32} {vLi : Int32} {vGc : Int32} {vSo : Int32} {vSc : Int32} {vLe : Int32} {fNu : Nat → Int32} {fCo : Nat → Int32} {fIx : Nat → Int32} {fNe : Nat → Int32} {fDi : Nat → Int32} {fBe : Nat → Int64} {fCr : Nat → Int32} {fCw : Nat → Int32} {fDo : Nat → Int32} {fCh : Nat → Int32} {fNx : Nat → Int32} {j : Nat} {x : Int32} (hC : CallFix p m c cc nL s args lw_all RX0) (hK : va_K D vwCl (kB dI dJ) s) (hP : va_P D vwCl (bbW h a dI dJ vIs vLi vGc vSo vSc vLe fNu fCo fIx fNe fDi fBe fCr fCw fDo fCh fNx) H) (hD : va_D A (bbW h a dI dJ vIs vLi vGc vSo vSc vLe fNu fCo fIx fNe fDi fBe fCr fCw fDo fCh fNx)) (hS : va_S A H0 H locs) (hj : j < 10) (hdg : decode cc pc = .ok (.iastore, 1)) (kk : ∀ (H1 : Heap) (locs1 : List Loc), va_P D vwCl (bbW h a dI dJ vIs vLi vGc vSo vSc vLe fNu fCo fIx fNe fDi fBe fCr fCw fDo fCh (upd fNx j x)) H1 → va_D A (bbW h a dI dJ vIs vLi vGc vSo vSc vLe fNu fCo fIx fNe fDi fBe fCr fCw fDo fCh (upd fNx j x)) → va_S A H0 H1 locs1 → W p l e R s m args below meth c H1 locs1 cells slots Q (F0 m (pc + 1) ls rest)) : W p l e R s m args below meth c H locs cells slots Q (F0 m pc ls (.int x :: .int (nI j) :: .ref (a 10) :: rest)) := by
  refine va_iast hC.1 hC.2.1 hK hP hD hS 11 0 rfl rfl (vp_in_nI hj (by decide)) hdg (fun H1 locs1 a1 a2 a3 => ?_)
  rw [nI_clamp (by omega)] at a1 a2
  exact kk H1 locs1 a1 a2 a3
theorem g1_number {h : Nat} {a : Nat → Nat} {dI dJ dZ : ClassId} {vGa : Int32} {fNu : Nat → Int32} {fNe : Nat → Int32} {fFa : Nat → Int32} {fBe : Nat → Int64} {fBr : Nat → Int32} {fRe : Nat → Int32} (hC : CallFix p m c cc nL s args lw_all RX1) (hK : va_K D vwCl (kM dI dJ dZ) s) (hP : va_P D vwCl (mdW h a dI dJ dZ vGa fNu fNe fFa fBe fBr fRe) H) (hdg : decode cc pc = .ok (.getfield 7, 3)) (kk : W p l e R s m args below meth c H locs cells slots Q (F0 m (pc + 3) ls (.ref (a 0) :: rest))) : W p l e R s m args below meth c H locs cells slots Q (F0 m pc ls (.ref h :: rest)) := va_get (D := D) (ci := 1) (v := .ref (a 0)) (C := RX1) (T := TX1) (N := 7) hC.1 hC.2.1 hC.2.2.2.2 in_X1 hC.2.2.2.1 hK hP 0 rfl rfl 0 (by decide) (hC.2.2.2.2 _ q201) (fun _ h9 => h9) rfl hdg kk
theorem g1_gaps {h : Nat} {a : Nat → Nat} {dI dJ dZ : ClassId} {vGa : Int32} {fNu : Nat → Int32} {fNe : Nat → Int32} {fFa : Nat → Int32} {fBe : Nat → Int64} {fBr : Nat → Int32} {fRe : Nat → Int32} (hC : CallFix p m c cc nL s args lw_all RX1) (hK : va_K D vwCl (kM dI dJ dZ) s) (hP : va_P D vwCl (mdW h a dI dJ dZ vGa fNu fNe fFa fBe fBr fRe) H) (hdg : decode cc pc = .ok (.getfield 38, 3)) (kk : W p l e R s m args below meth c H locs cells slots Q (F0 m (pc + 3) ls (.int vGa :: rest))) : W p l e R s m args below meth c H locs cells slots Q (F0 m pc ls (.ref h :: rest)) := va_get (D := D) (ci := 1) (v := .int vGa) (C := RX1) (T := TX1) (N := 7) hC.1 hC.2.1 hC.2.2.2.2 in_X1 hC.2.2.2.1 hK hP 0 rfl rfl 1 (by decide) (hC.2.2.2.2 _ q202) (fun _ h9 => h9) rfl hdg kk
theorem p1_gaps {h : Nat} {a : Nat → Nat} {dI dJ dZ : ClassId} {vGa : Int32} {fNu : Nat → Int32} {fNe : Nat → Int32} {fFa : Nat → Int32} {fBe : Nat → Int64} {fBr : Nat → Int32} {fRe : Nat → Int32} {x : Int32} (hC : CallFix p m c cc nL s args lw_all RX1) (hK : va_K D vwCl (kM dI dJ dZ) s) (hP : va_P D vwCl (mdW h a dI dJ dZ vGa fNu fNe fFa fBe fBr fRe) H) (hD : va_D A (mdW h a dI dJ dZ vGa fNu fNe fFa fBe fBr fRe)) (hS : va_S A H0 H locs) (hdg : decode cc pc = .ok (.putfield 38, 3)) (kk : ∀ (H1 : Heap) (locs1 : List Loc), va_P D vwCl (mdW h a dI dJ dZ (x) fNu fNe fFa fBe fBr fRe) H1 → va_D A (mdW h a dI dJ dZ (x) fNu fNe fFa fBe fBr fRe) → va_S A H0 H1 locs1 → W p l e R s m args below meth c H1 locs1 cells slots Q (F0 m (pc + 3) ls rest)) : W p l e R s m args below meth c H locs cells slots Q (F0 m pc ls (.int x :: .ref h :: rest)) := va_put (D := D) (ci := 1) (v := .int x) (ty := .int) (C := RX1) (T := TX1) (N := 7) hC.1 hC.2.1 hC.2.2.2.2 in_X1 tyX1 tyX1_ok nmX1 hC.2.2.2.1 hK hP hD hS 0 rfl rfl 1 (by decide) (hC.2.2.2.2 _ q202) (fun _ h9 => h9) rfl (by decide +kernel) rfl rfl (Nat.le_of_ble_eq_true rfl) hdg (fun H1 locs1 a1 a2 a3 => kk H1 locs1 a1 a2 a3)
theorem g1_near {h : Nat} {a : Nat → Nat} {dI dJ dZ : ClassId} {vGa : Int32} {fNu : Nat → Int32} {fNe : Nat → Int32} {fFa : Nat → Int32} {fBe : Nat → Int64} {fBr : Nat → Int32} {fRe : Nat → Int32} (hC : CallFix p m c cc nL s args lw_all RX1) (hK : va_K D vwCl (kM dI dJ dZ) s) (hP : va_P D vwCl (mdW h a dI dJ dZ vGa fNu fNe fFa fBe fBr fRe) H) (hdg : decode cc pc = .ok (.getfield 13, 3)) (kk : W p l e R s m args below meth c H locs cells slots Q (F0 m (pc + 3) ls (.ref (a 1) :: rest))) : W p l e R s m args below meth c H locs cells slots Q (F0 m pc ls (.ref h :: rest)) := va_get (D := D) (ci := 1) (v := .ref (a 1)) (C := RX1) (T := TX1) (N := 7) hC.1 hC.2.1 hC.2.2.2.2 in_X1 hC.2.2.2.1 hK hP 0 rfl rfl 2 (by decide) (hC.2.2.2.2 _ q203) (fun _ h9 => h9) rfl hdg kk
theorem g1_far {h : Nat} {a : Nat → Nat} {dI dJ dZ : ClassId} {vGa : Int32} {fNu : Nat → Int32} {fNe : Nat → Int32} {fFa : Nat → Int32} {fBe : Nat → Int64} {fBr : Nat → Int32} {fRe : Nat → Int32} (hC : CallFix p m c cc nL s args lw_all RX1) (hK : va_K D vwCl (kM dI dJ dZ) s) (hP : va_P D vwCl (mdW h a dI dJ dZ vGa fNu fNe fFa fBe fBr fRe) H) (hdg : decode cc pc = .ok (.getfield 16, 3)) (kk : W p l e R s m args below meth c H locs cells slots Q (F0 m (pc + 3) ls (.ref (a 2) :: rest))) : W p l e R s m args below meth c H locs cells slots Q (F0 m pc ls (.ref h :: rest)) := va_get (D := D) (ci := 1) (v := .ref (a 2)) (C := RX1) (T := TX1) (N := 7) hC.1 hC.2.1 hC.2.2.2.2 in_X1 hC.2.2.2.1 hK hP 0 rfl rfl 3 (by decide) (hC.2.2.2.2 _ q204) (fun _ h9 => h9) rfl hdg kk
theorem g1_between {h : Nat} {a : Nat → Nat} {dI dJ dZ : ClassId} {vGa : Int32} {fNu : Nat → Int32} {fNe : Nat → Int32} {fFa : Nat → Int32} {fBe : Nat → Int64} {fBr : Nat → Int32} {fRe : Nat → Int32} (hC : CallFix p m c cc nL s args lw_all RX1) (hK : va_K D vwCl (kM dI dJ dZ) s) (hP : va_P D vwCl (mdW h a dI dJ dZ vGa fNu fNe fFa fBe fBr fRe) H) (hdg : decode cc pc = .ok (.getfield 19, 3)) (kk : W p l e R s m args below meth c H locs cells slots Q (F0 m (pc + 3) ls (.ref (a 3) :: rest))) : W p l e R s m args below meth c H locs cells slots Q (F0 m pc ls (.ref h :: rest)) := va_get (D := D) (ci := 1) (v := .ref (a 3)) (C := RX1) (T := TX1) (N := 7) hC.1 hC.2.1 hC.2.2.2.2 in_X1 hC.2.2.2.1 hK hP 0 rfl rfl 4 (by decide) (hC.2.2.2.2 _ q205) (fun _ h9 => h9) rfl hdg kk
theorem g1_bridges {h : Nat} {a : Nat → Nat} {dI dJ dZ : ClassId} {vGa : Int32} {fNu : Nat → Int32} {fNe : Nat → Int32} {fFa : Nat → Int32} {fBe : Nat → Int64} {fBr : Nat → Int32} {fRe : Nat → Int32} (hC : CallFix p m c cc nL s args lw_all RX1) (hK : va_K D vwCl (kM dI dJ dZ) s) (hP : va_P D vwCl (mdW h a dI dJ dZ vGa fNu fNe fFa fBe fBr fRe) H) (hdg : decode cc pc = .ok (.getfield 23, 3)) (kk : W p l e R s m args below meth c H locs cells slots Q (F0 m (pc + 3) ls (.ref (a 4) :: rest))) : W p l e R s m args below meth c H locs cells slots Q (F0 m pc ls (.ref h :: rest)) := va_get (D := D) (ci := 1) (v := .ref (a 4)) (C := RX1) (T := TX1) (N := 7) hC.1 hC.2.1 hC.2.2.2.2 in_X1 hC.2.2.2.1 hK hP 0 rfl rfl 5 (by decide) (hC.2.2.2.2 _ q206) (fun _ h9 => h9) rfl hdg kk
theorem g1_reached {h : Nat} {a : Nat → Nat} {dI dJ dZ : ClassId} {vGa : Int32} {fNu : Nat → Int32} {fNe : Nat → Int32} {fFa : Nat → Int32} {fBe : Nat → Int64} {fBr : Nat → Int32} {fRe : Nat → Int32} (hC : CallFix p m c cc nL s args lw_all RX1) (hK : va_K D vwCl (kM dI dJ dZ) s) (hP : va_P D vwCl (mdW h a dI dJ dZ vGa fNu fNe fFa fBe fBr fRe) H) (hdg : decode cc pc = .ok (.getfield 26, 3)) (kk : W p l e R s m args below meth c H locs cells slots Q (F0 m (pc + 3) ls (.ref (a 5) :: rest))) : W p l e R s m args below meth c H locs cells slots Q (F0 m pc ls (.ref h :: rest)) := va_get (D := D) (ci := 1) (v := .ref (a 5)) (C := RX1) (T := TX1) (N := 7) hC.1 hC.2.1 hC.2.2.2.2 in_X1 hC.2.2.2.1 hK hP 0 rfl rfl 6 (by decide) (hC.2.2.2.2 _ q207) (fun _ h9 => h9) rfl hdg kk
theorem l1_number {h : Nat} {a : Nat → Nat} {dI dJ dZ : ClassId} {vGa : Int32} {fNu : Nat → Int32} {fNe : Nat → Int32} {fFa : Nat → Int32} {fBe : Nat → Int64} {fBr : Nat → Int32} {fRe : Nat → Int32} {j : Nat} (hC : CallFix p m c cc nL s args lw_all RX1) (hK : va_K D vwCl (kM dI dJ dZ) s) (hP : va_P D vwCl (mdW h a dI dJ dZ vGa fNu fNe fFa fBe fBr fRe) H) (hj : j < 36) (hdg : decode cc pc = .ok (.iaload, 1)) (kk : W p l e R s m args below meth c H locs cells slots Q (F0 m (pc + 1) ls (.int (fNu j) :: rest))) : W p l e R s m args below meth c H locs cells slots Q (F0 m pc ls (.int (nI j) :: .ref (a 0) :: rest)) := va_iald hC.1 hC.2.1 hK hP 1 0 rfl rfl (vp_in_nI hj (by decide)) hdg (by rw [nI_clamp (by omega)]; exact kk)
theorem s1_number {h : Nat} {a : Nat → Nat} {dI dJ dZ : ClassId} {vGa : Int32} {fNu : Nat → Int32} {fNe : Nat → Int32} {fFa : Nat → Int32} {fBe : Nat → Int64} {fBr : Nat → Int32} {fRe : Nat → Int32} {j : Nat} {x : Int32} (hC : CallFix p m c cc nL s args lw_all RX1) (hK : va_K D vwCl (kM dI dJ dZ) s) (hP : va_P D vwCl (mdW h a dI dJ dZ vGa fNu fNe fFa fBe fBr fRe) H) (hD : va_D A (mdW h a dI dJ dZ vGa fNu fNe fFa fBe fBr fRe)) (hS : va_S A H0 H locs) (hj : j < 36) (hdg : decode cc pc = .ok (.iastore, 1)) (kk : ∀ (H1 : Heap) (locs1 : List Loc), va_P D vwCl (mdW h a dI dJ dZ vGa (upd fNu j x) fNe fFa fBe fBr fRe) H1 → va_D A (mdW h a dI dJ dZ vGa (upd fNu j x) fNe fFa fBe fBr fRe) → va_S A H0 H1 locs1 → W p l e R s m args below meth c H1 locs1 cells slots Q (F0 m (pc + 1) ls rest)) : W p l e R s m args below meth c H locs cells slots Q (F0 m pc ls (.int x :: .int (nI j) :: .ref (a 0) :: rest)) := by
  refine va_iast hC.1 hC.2.1 hK hP hD hS 1 0 rfl rfl (vp_in_nI hj (by decide)) hdg (fun H1 locs1 a1 a2 a3 => ?_)
  rw [nI_clamp (by omega)] at a1 a2
  exact kk H1 locs1 a1 a2 a3
theorem l1_near {h : Nat} {a : Nat → Nat} {dI dJ dZ : ClassId} {vGa : Int32} {fNu : Nat → Int32} {fNe : Nat → Int32} {fFa : Nat → Int32} {fBe : Nat → Int64} {fBr : Nat → Int32} {fRe : Nat → Int32} {j : Nat} (hC : CallFix p m c cc nL s args lw_all RX1) (hK : va_K D vwCl (kM dI dJ dZ) s) (hP : va_P D vwCl (mdW h a dI dJ dZ vGa fNu fNe fFa fBe fBr fRe) H) (hj : j < 16) (hdg : decode cc pc = .ok (.iaload, 1)) (kk : W p l e R s m args below meth c H locs cells slots Q (F0 m (pc + 1) ls (.int (fNe j) :: rest))) : W p l e R s m args below meth c H locs cells slots Q (F0 m pc ls (.int (nI j) :: .ref (a 1) :: rest)) := va_iald hC.1 hC.2.1 hK hP 2 0 rfl rfl (vp_in_nI hj (by decide)) hdg (by rw [nI_clamp (by omega)]; exact kk)
theorem s1_near {h : Nat} {a : Nat → Nat} {dI dJ dZ : ClassId} {vGa : Int32} {fNu : Nat → Int32} {fNe : Nat → Int32} {fFa : Nat → Int32} {fBe : Nat → Int64} {fBr : Nat → Int32} {fRe : Nat → Int32} {j : Nat} {x : Int32} (hC : CallFix p m c cc nL s args lw_all RX1) (hK : va_K D vwCl (kM dI dJ dZ) s) (hP : va_P D vwCl (mdW h a dI dJ dZ vGa fNu fNe fFa fBe fBr fRe) H) (hD : va_D A (mdW h a dI dJ dZ vGa fNu fNe fFa fBe fBr fRe)) (hS : va_S A H0 H locs) (hj : j < 16) (hdg : decode cc pc = .ok (.iastore, 1)) (kk : ∀ (H1 : Heap) (locs1 : List Loc), va_P D vwCl (mdW h a dI dJ dZ vGa fNu (upd fNe j x) fFa fBe fBr fRe) H1 → va_D A (mdW h a dI dJ dZ vGa fNu (upd fNe j x) fFa fBe fBr fRe) → va_S A H0 H1 locs1 → W p l e R s m args below meth c H1 locs1 cells slots Q (F0 m (pc + 1) ls rest)) : W p l e R s m args below meth c H locs cells slots Q (F0 m pc ls (.int x :: .int (nI j) :: .ref (a 1) :: rest)) := by
  refine va_iast hC.1 hC.2.1 hK hP hD hS 2 0 rfl rfl (vp_in_nI hj (by decide)) hdg (fun H1 locs1 a1 a2 a3 => ?_)
  rw [nI_clamp (by omega)] at a1 a2
  exact kk H1 locs1 a1 a2 a3
theorem l1_far {h : Nat} {a : Nat → Nat} {dI dJ dZ : ClassId} {vGa : Int32} {fNu : Nat → Int32} {fNe : Nat → Int32} {fFa : Nat → Int32} {fBe : Nat → Int64} {fBr : Nat → Int32} {fRe : Nat → Int32} {j : Nat} (hC : CallFix p m c cc nL s args lw_all RX1) (hK : va_K D vwCl (kM dI dJ dZ) s) (hP : va_P D vwCl (mdW h a dI dJ dZ vGa fNu fNe fFa fBe fBr fRe) H) (hj : j < 16) (hdg : decode cc pc = .ok (.iaload, 1)) (kk : W p l e R s m args below meth c H locs cells slots Q (F0 m (pc + 1) ls (.int (fFa j) :: rest))) : W p l e R s m args below meth c H locs cells slots Q (F0 m pc ls (.int (nI j) :: .ref (a 2) :: rest)) := va_iald hC.1 hC.2.1 hK hP 3 0 rfl rfl (vp_in_nI hj (by decide)) hdg (by rw [nI_clamp (by omega)]; exact kk)
theorem s1_far {h : Nat} {a : Nat → Nat} {dI dJ dZ : ClassId} {vGa : Int32} {fNu : Nat → Int32} {fNe : Nat → Int32} {fFa : Nat → Int32} {fBe : Nat → Int64} {fBr : Nat → Int32} {fRe : Nat → Int32} {j : Nat} {x : Int32} (hC : CallFix p m c cc nL s args lw_all RX1) (hK : va_K D vwCl (kM dI dJ dZ) s) (hP : va_P D vwCl (mdW h a dI dJ dZ vGa fNu fNe fFa fBe fBr fRe) H) (hD : va_D A (mdW h a dI dJ dZ vGa fNu fNe fFa fBe fBr fRe)) (hS : va_S A H0 H locs) (hj : j < 16) (hdg : decode cc pc = .ok (.iastore, 1)) (kk : ∀ (H1 : Heap) (locs1 : List Loc), va_P D vwCl (mdW h a dI dJ dZ vGa fNu fNe (upd fFa j x) fBe fBr fRe) H1 → va_D A (mdW h a dI dJ dZ vGa fNu fNe (upd fFa j x) fBe fBr fRe) → va_S A H0 H1 locs1 → W p l e R s m args below meth c H1 locs1 cells slots Q (F0 m (pc + 1) ls rest)) : W p l e R s m args below meth c H locs cells slots Q (F0 m pc ls (.int x :: .int (nI j) :: .ref (a 2) :: rest)) := by
  refine va_iast hC.1 hC.2.1 hK hP hD hS 3 0 rfl rfl (vp_in_nI hj (by decide)) hdg (fun H1 locs1 a1 a2 a3 => ?_)
  rw [nI_clamp (by omega)] at a1 a2
  exact kk H1 locs1 a1 a2 a3
theorem l1_between {h : Nat} {a : Nat → Nat} {dI dJ dZ : ClassId} {vGa : Int32} {fNu : Nat → Int32} {fNe : Nat → Int32} {fFa : Nat → Int32} {fBe : Nat → Int64} {fBr : Nat → Int32} {fRe : Nat → Int32} {j : Nat} (hC : CallFix p m c cc nL s args lw_all RX1) (hK : va_K D vwCl (kM dI dJ dZ) s) (hP : va_P D vwCl (mdW h a dI dJ dZ vGa fNu fNe fFa fBe fBr fRe) H) (hj : j < 16) (hdg : decode cc pc = .ok (.laload, 1)) (kk : W p l e R s m args below meth c H locs cells slots Q (F0 m (pc + 1) ls (.long (fBe j) :: rest))) : W p l e R s m args below meth c H locs cells slots Q (F0 m pc ls (.int (nI j) :: .ref (a 3) :: rest)) := va_lald hC.1 hC.2.1 hK hP 4 1 rfl rfl (vp_in_nI hj (by decide)) hdg (by rw [nI_clamp (by omega)]; exact kk)
theorem s1_between {h : Nat} {a : Nat → Nat} {dI dJ dZ : ClassId} {vGa : Int32} {fNu : Nat → Int32} {fNe : Nat → Int32} {fFa : Nat → Int32} {fBe : Nat → Int64} {fBr : Nat → Int32} {fRe : Nat → Int32} {j : Nat} {x : Int64} (hC : CallFix p m c cc nL s args lw_all RX1) (hK : va_K D vwCl (kM dI dJ dZ) s) (hP : va_P D vwCl (mdW h a dI dJ dZ vGa fNu fNe fFa fBe fBr fRe) H) (hD : va_D A (mdW h a dI dJ dZ vGa fNu fNe fFa fBe fBr fRe)) (hS : va_S A H0 H locs) (hj : j < 16) (hdg : decode cc pc = .ok (.lastore, 1)) (kk : ∀ (H1 : Heap) (locs1 : List Loc), va_P D vwCl (mdW h a dI dJ dZ vGa fNu fNe fFa (vp_updL fBe j x) fBr fRe) H1 → va_D A (mdW h a dI dJ dZ vGa fNu fNe fFa (vp_updL fBe j x) fBr fRe) → va_S A H0 H1 locs1 → W p l e R s m args below meth c H1 locs1 cells slots Q (F0 m (pc + 1) ls rest)) : W p l e R s m args below meth c H locs cells slots Q (F0 m pc ls (.long x :: .int (nI j) :: .ref (a 3) :: rest)) := by
  refine va_last hC.1 hC.2.1 hK hP hD hS 4 1 rfl rfl (vp_in_nI hj (by decide)) hdg (fun H1 locs1 a1 a2 a3 => ?_)
  rw [nI_clamp (by omega)] at a1 a2
  exact kk H1 locs1 a1 a2 a3
theorem l1_bridges {h : Nat} {a : Nat → Nat} {dI dJ dZ : ClassId} {vGa : Int32} {fNu : Nat → Int32} {fNe : Nat → Int32} {fFa : Nat → Int32} {fBe : Nat → Int64} {fBr : Nat → Int32} {fRe : Nat → Int32} {j : Nat} (hC : CallFix p m c cc nL s args lw_all RX1) (hK : va_K D vwCl (kM dI dJ dZ) s) (hP : va_P D vwCl (mdW h a dI dJ dZ vGa fNu fNe fFa fBe fBr fRe) H) (hj : j < 16) (hdg : decode cc pc = .ok (.iaload, 1)) (kk : W p l e R s m args below meth c H locs cells slots Q (F0 m (pc + 1) ls (.int (fBr j) :: rest))) : W p l e R s m args below meth c H locs cells slots Q (F0 m pc ls (.int (nI j) :: .ref (a 4) :: rest)) := va_iald hC.1 hC.2.1 hK hP 5 0 rfl rfl (vp_in_nI hj (by decide)) hdg (by rw [nI_clamp (by omega)]; exact kk)
theorem s1_bridges {h : Nat} {a : Nat → Nat} {dI dJ dZ : ClassId} {vGa : Int32} {fNu : Nat → Int32} {fNe : Nat → Int32} {fFa : Nat → Int32} {fBe : Nat → Int64} {fBr : Nat → Int32} {fRe : Nat → Int32} {j : Nat} {x : Int32} (hC : CallFix p m c cc nL s args lw_all RX1) (hK : va_K D vwCl (kM dI dJ dZ) s) (hP : va_P D vwCl (mdW h a dI dJ dZ vGa fNu fNe fFa fBe fBr fRe) H) (hD : va_D A (mdW h a dI dJ dZ vGa fNu fNe fFa fBe fBr fRe)) (hS : va_S A H0 H locs) (hj : j < 16) (hdg : decode cc pc = .ok (.iastore, 1)) (kk : ∀ (H1 : Heap) (locs1 : List Loc), va_P D vwCl (mdW h a dI dJ dZ vGa fNu fNe fFa fBe (upd fBr j x) fRe) H1 → va_D A (mdW h a dI dJ dZ vGa fNu fNe fFa fBe (upd fBr j x) fRe) → va_S A H0 H1 locs1 → W p l e R s m args below meth c H1 locs1 cells slots Q (F0 m (pc + 1) ls rest)) : W p l e R s m args below meth c H locs cells slots Q (F0 m pc ls (.int x :: .int (nI j) :: .ref (a 4) :: rest)) := by
  refine va_iast hC.1 hC.2.1 hK hP hD hS 5 0 rfl rfl (vp_in_nI hj (by decide)) hdg (fun H1 locs1 a1 a2 a3 => ?_)
  rw [nI_clamp (by omega)] at a1 a2
  exact kk H1 locs1 a1 a2 a3
theorem l1_reached {h : Nat} {a : Nat → Nat} {dI dJ dZ : ClassId} {vGa : Int32} {fNu : Nat → Int32} {fNe : Nat → Int32} {fFa : Nat → Int32} {fBe : Nat → Int64} {fBr : Nat → Int32} {fRe : Nat → Int32} {j : Nat} (hC : CallFix p m c cc nL s args lw_all RX1) (hK : va_K D vwCl (kM dI dJ dZ) s) (hP : va_P D vwCl (mdW h a dI dJ dZ vGa fNu fNe fFa fBe fBr fRe) H) (hj : j < 36) (hdg : decode cc pc = .ok (.baload, 1)) (kk : W p l e R s m args below meth c H locs cells slots Q (F0 m (pc + 1) ls (.int (fRe j) :: rest))) : W p l e R s m args below meth c H locs cells slots Q (F0 m pc ls (.int (nI j) :: .ref (a 5) :: rest)) := va_zald hC.1 hC.2.1 hK hP 6 2 rfl rfl (vp_in_nI hj (by decide)) hdg (by rw [nI_clamp (by omega)]; exact kk)
theorem s1_reached {h : Nat} {a : Nat → Nat} {dI dJ dZ : ClassId} {vGa : Int32} {fNu : Nat → Int32} {fNe : Nat → Int32} {fFa : Nat → Int32} {fBe : Nat → Int64} {fBr : Nat → Int32} {fRe : Nat → Int32} {j : Nat} {x : Bool} (hC : CallFix p m c cc nL s args lw_all RX1) (hK : va_K D vwCl (kM dI dJ dZ) s) (hP : va_P D vwCl (mdW h a dI dJ dZ vGa fNu fNe fFa fBe fBr fRe) H) (hD : va_D A (mdW h a dI dJ dZ vGa fNu fNe fFa fBe fBr fRe)) (hS : va_S A H0 H locs) (hj : j < 36) (hdg : decode cc pc = .ok (.bastore, 1)) (kk : ∀ (H1 : Heap) (locs1 : List Loc), va_P D vwCl (mdW h a dI dJ dZ vGa fNu fNe fFa fBe fBr (upd fRe j (bo x))) H1 → va_D A (mdW h a dI dJ dZ vGa fNu fNe fFa fBe fBr (upd fRe j (bo x))) → va_S A H0 H1 locs1 → W p l e R s m args below meth c H1 locs1 cells slots Q (F0 m (pc + 1) ls rest)) : W p l e R s m args below meth c H locs cells slots Q (F0 m pc ls (.int (bo x) :: .int (nI j) :: .ref (a 5) :: rest)) := by
  refine va_zast hC.1 hC.2.1 hK hP hD hS 6 2 rfl rfl (vp_in_nI hj (by decide)) hdg (fun H1 locs1 a1 a2 a3 => ?_)
  rw [nI_clamp (by omega)] at a1 a2; have ez : vp_nar .boolean (bo x) = bo x := by cases x <;> rfl
  rw [ez] at a1 a2
  exact kk H1 locs1 a1 a2 a3
end
abbrev cP (D : va_G) (ty : List (ClassId × FieldType)) (w : va_W) (sz : Nat) (av : List Value) : Array Value → State → Prop := va_Pc av (fun U => U.heap.size = sz ∧ va_P D vwCl w U.heap ∧ va_K D vwCl ty U ∧ va_D (fun _ => True) w)
abbrev cB (D : va_G) (ty : List (ClassId × FieldType)) (w : va_W) (sz : Nat) {S : Type} (w1 : S → va_W) : S → State → Prop := fun u t => va_P D vwCl (w1 u) t.heap ∧ va_K D vwCl ty t ∧ va_D (va_A w sz) (w1 u)
abbrev cQv (D : va_G) (ty : List (ClassId × FieldType)) (w : va_W) (sz : Nat) {S : Type} (post : S → Prop) (w1 : S → va_W) : Array Value → State → Outcome → State → Prop := va_Qv post (cB D ty w sz w1) (va_A w sz)
abbrev cQi (D : va_G) (ty : List (ClassId × FieldType)) (w : va_W) (sz : Nat) {S : Type} (post : Int32 → S → Prop) (w1 : S → va_W) : Array Value → State → Outcome → State → Prop := va_Qi post (cB D ty w sz w1) (va_A w sz)
abbrev rP (D : va_G) (ty : List (ClassId × FieldType)) (w : va_W) (av : List Value) : Array Value → State → Prop := va_Pc av (fun U => va_P D vwCl w U.heap ∧ va_K D vwCl ty U)
set_option maxHeartbeats 1000000 in
theorem en_ri {l : Launch} {y : MethodName} {cc : ByteArray} {n : Nat} {rm : Room} {D : va_G} {ty : List (ClassId × FieldType)} {w : va_W} {av : List Value} {r : Int32} (hy : plainName y.cls = true) (hn : (lg_sl av).length ≤ n)
    (body : ∀ (p : Program) (e : Env) (s : State) (m : MethodId) (below : List Frame) (meth : Method) (c : Code) (ls : Array Slot) (Q : State → Prop), CallFix p m c cc n s av.toArray lw_all y.cls → va_P D vwCl w s.heap → va_K D vwCl ty s → lv_has ls n (lv_args 0 av) → (∀ (pc : Nat) (ls : Array Slot) (v : Int32), decode cc pc = .ok (.ireturn, 1) → v = r → W p l e rm s m av.toArray below meth c s.heap [] 0 0 Q (F0 m pc ls [.int v])) → W p l e rm s m av.toArray below meth c s.heap [] 0 0 Q (F0 m 0 ls [])) :
    Met l y (ws_ y cc n (some .int)) rm (rP D ty w av) (QcRead (r)) 0 0 (fun _ => False) := by
  refine Met.ofW (cc := cc) (maxL := n) (ret := (some .int)) hy rfl ?_
  intro p e s m args below meth c s₁ B hml hv
  obtain ⟨rfl, hP, hK⟩ := hv
  have hts := atoms_spec (ws := ws_ y cc n ((some .int))) B.pre
  have hts : ∀ w ∈ lw_all, w.before _ s = true := fun w h => hts w (List.mem_cons_of_mem _ h)
  have hown : s.vm.findClass y.cls = some m.cls := findClass_of_methodNamed B.named
  have hl := lv_entry av (n := n) hn
  rw [lg_entry_eq]
  generalize (lg_sl av ++ List.replicate (n - (lg_sl av).length) Slot.unset).toArray = ls at hl ⊢
  refine body p e s m below meth c ls _ ⟨B.exec, B.bytes, hml, hown, hts⟩ hP hK hl (fun pc ls v hd hv => ?_)
  subst hv
  have hlk := B.notSynchronized
  exact W.iret B.exec B.bytes B.returns (fun t ht _ => ⟨rfl, ht⟩) (fun q h => by cases h) hd
set_option maxHeartbeats 1000000 in
theorem en_rz {l : Launch} {y : MethodName} {cc : ByteArray} {n : Nat} {rm : Room} {D : va_G} {ty : List (ClassId × FieldType)} {w : va_W} {av : List Value} {r : Bool} (hy : plainName y.cls = true) (hn : (lg_sl av).length ≤ n)
    (body : ∀ (p : Program) (e : Env) (s : State) (m : MethodId) (below : List Frame) (meth : Method) (c : Code) (ls : Array Slot) (Q : State → Prop), CallFix p m c cc n s av.toArray lw_all y.cls → va_P D vwCl w s.heap → va_K D vwCl ty s → lv_has ls n (lv_args 0 av) → (∀ (pc : Nat) (ls : Array Slot) (v : Int32), decode cc pc = .ok (.ireturn, 1) → v = bo r → W p l e rm s m av.toArray below meth c s.heap [] 0 0 Q (F0 m pc ls [.int v])) → W p l e rm s m av.toArray below meth c s.heap [] 0 0 Q (F0 m 0 ls [])) :
    Met l y (ws_ y cc n (some .boolean)) rm (rP D ty w av) (QcRead (bo r)) 0 0 (fun _ => False) := by
  refine Met.ofW (cc := cc) (maxL := n) (ret := (some .boolean)) hy rfl ?_
  intro p e s m args below meth c s₁ B hml hv
  obtain ⟨rfl, hP, hK⟩ := hv
  have hts := atoms_spec (ws := ws_ y cc n ((some .boolean))) B.pre
  have hts : ∀ w ∈ lw_all, w.before _ s = true := fun w h => hts w (List.mem_cons_of_mem _ h)
  have hown : s.vm.findClass y.cls = some m.cls := findClass_of_methodNamed B.named
  have hl := lv_entry av (n := n) hn
  rw [lg_entry_eq]
  generalize (lg_sl av ++ List.replicate (n - (lg_sl av).length) Slot.unset).toArray = ls at hl ⊢
  refine body p e s m below meth c ls _ ⟨B.exec, B.bytes, hml, hown, hts⟩ hP hK hl (fun pc ls v hd hv => ?_)
  subst hv
  have hlk := B.notSynchronized
  exact W.zret B.exec B.bytes B.returns (by cases r <;> rfl) (fun t ht _ => ⟨rfl, ht⟩) (fun q h => by cases h) hd
set_option maxHeartbeats 1000000 in
theorem en_v {S : Type} {l : Launch} {y : MethodName} {cc : ByteArray} {n : Nat} {rm : Room} {D : va_G} {ty : List (ClassId × FieldType)} {w : va_W} {av : List Value} {sz : Nat} {post : S → Prop} {w1 : S → va_W} (hy : plainName y.cls = true) (hn : (lg_sl av).length ≤ n)
    (body : ∀ (p : Program) (e : Env) (s : State) (m : MethodId) (below : List Frame) (meth : Method) (c : Code) (ls : Array Slot) (Q : State → Prop) (A : Nat → Prop), CallFix p m c cc n s av.toArray lw_all y.cls → va_P D vwCl w s.heap → va_K D vwCl ty s → va_D A w → (∀ q : Nat, s.heap.size ≤ q → A q) → va_S A s.heap s.heap [] → lv_has ls n (lv_args 0 av) → (∀ (H : Heap) (locs : List Loc) (pc : Nat) (ls : Array Slot) (u : S), decode cc pc = .ok (.return_, 1) → post u → va_P D vwCl (w1 u) H → va_D A (w1 u) → va_S A s.heap H locs → W p l e rm s m av.toArray below meth c H locs 0 0 Q (F0 m pc ls [])) → W p l e rm s m av.toArray below meth c s.heap [] 0 0 Q (F0 m 0 ls [])) :
    Met l y (ws_ y cc n none) rm (cP D ty w sz av) (cQv D ty w sz post w1) 0 0 (va_A w sz) := by
  refine Met.ofW (cc := cc) (maxL := n) (ret := none) hy rfl ?_
  intro p e s m args below meth c s₁ B hml hv
  obtain ⟨rfl, hsz, hP, hK, hD0⟩ := hv
  have hts := atoms_spec (ws := ws_ y cc n (none)) B.pre
  have hts : ∀ w ∈ lw_all, w.before _ s = true := fun w h => hts w (List.mem_cons_of_mem _ h)
  have hown : s.vm.findClass y.cls = some m.cls := findClass_of_methodNamed B.named
  have hl := lv_entry av (n := n) hn
  rw [lg_entry_eq]
  generalize (lg_sl av ++ List.replicate (n - (lg_sl av).length) Slot.unset).toArray = ls at hl ⊢
  subst hsz
  have hD := hD0.self (sz := s.heap.size)
  have hlk := B.notSynchronized
  refine body p e s m below meth c ls _ (va_A w s.heap.size) ⟨B.exec, B.bytes, hml, hown, hts⟩ hP hK hD (fun q h => Or.inr h) va_S.rf hl (fun H locs pc ls u hd hp hP1 hD1 hS1 => ?_)
  exact W.vret B.exec B.bytes B.returns (fun t ht hW => ⟨⟨u, rfl, hp, by rw [ht]; exact hP1, va_K.moved hW.alike hK, hD1⟩, hS1.F ht⟩) hS1.2.2 hd
set_option maxHeartbeats 1000000 in
theorem en_i {S : Type} {l : Launch} {y : MethodName} {cc : ByteArray} {n : Nat} {rm : Room} {D : va_G} {ty : List (ClassId × FieldType)} {w : va_W} {av : List Value} {sz : Nat} {post : Int32 → S → Prop} {w1 : S → va_W} (hy : plainName y.cls = true) (hn : (lg_sl av).length ≤ n)
    (body : ∀ (p : Program) (e : Env) (s : State) (m : MethodId) (below : List Frame) (meth : Method) (c : Code) (ls : Array Slot) (Q : State → Prop) (A : Nat → Prop), CallFix p m c cc n s av.toArray lw_all y.cls → va_P D vwCl w s.heap → va_K D vwCl ty s → va_D A w → (∀ q : Nat, s.heap.size ≤ q → A q) → va_S A s.heap s.heap [] → lv_has ls n (lv_args 0 av) → (∀ (H : Heap) (locs : List Loc) (pc : Nat) (ls : Array Slot) (v : Int32) (u : S), decode cc pc = .ok (.ireturn, 1) → post v u → va_P D vwCl (w1 u) H → va_D A (w1 u) → va_S A s.heap H locs → W p l e rm s m av.toArray below meth c H locs 0 0 Q (F0 m pc ls [.int v])) → W p l e rm s m av.toArray below meth c s.heap [] 0 0 Q (F0 m 0 ls [])) :
    Met l y (ws_ y cc n (some .int)) rm (cP D ty w sz av) (cQi D ty w sz post w1) 0 0 (va_A w sz) := by
  refine Met.ofW (cc := cc) (maxL := n) (ret := (some .int)) hy rfl ?_
  intro p e s m args below meth c s₁ B hml hv
  obtain ⟨rfl, hsz, hP, hK, hD0⟩ := hv
  have hts := atoms_spec (ws := ws_ y cc n ((some .int))) B.pre
  have hts : ∀ w ∈ lw_all, w.before _ s = true := fun w h => hts w (List.mem_cons_of_mem _ h)
  have hown : s.vm.findClass y.cls = some m.cls := findClass_of_methodNamed B.named
  have hl := lv_entry av (n := n) hn
  rw [lg_entry_eq]
  generalize (lg_sl av ++ List.replicate (n - (lg_sl av).length) Slot.unset).toArray = ls at hl ⊢
  subst hsz
  have hD := hD0.self (sz := s.heap.size)
  have hlk := B.notSynchronized
  refine body p e s m below meth c ls _ (va_A w s.heap.size) ⟨B.exec, B.bytes, hml, hown, hts⟩ hP hK hD (fun q h => Or.inr h) va_S.rf hl (fun H locs pc ls v u hd hp hP1 hD1 hS1 => ?_)
  exact W.iret B.exec B.bytes B.returns (fun t ht hW => ⟨⟨_, u, rfl, hp, by rw [ht]; exact hP1, va_K.moved hW.alike hK, hD1⟩, hS1.F ht⟩) hS1.2.2 hd
set_option maxHeartbeats 1000000 in
theorem en_z {S : Type} {l : Launch} {y : MethodName} {cc : ByteArray} {n : Nat} {rm : Room} {D : va_G} {ty : List (ClassId × FieldType)} {w : va_W} {av : List Value} {sz : Nat} {post : Int32 → S → Prop} {w1 : S → va_W} (hy : plainName y.cls = true) (hn : (lg_sl av).length ≤ n)
    (body : ∀ (p : Program) (e : Env) (s : State) (m : MethodId) (below : List Frame) (meth : Method) (c : Code) (ls : Array Slot) (Q : State → Prop) (A : Nat → Prop), CallFix p m c cc n s av.toArray lw_all y.cls → va_P D vwCl w s.heap → va_K D vwCl ty s → va_D A w → (∀ q : Nat, s.heap.size ≤ q → A q) → va_S A s.heap s.heap [] → lv_has ls n (lv_args 0 av) → (∀ (H : Heap) (locs : List Loc) (pc : Nat) (ls : Array Slot) (v : Bool) (u : S), decode cc pc = .ok (.ireturn, 1) → post (bo v) u → va_P D vwCl (w1 u) H → va_D A (w1 u) → va_S A s.heap H locs → W p l e rm s m av.toArray below meth c H locs 0 0 Q (F0 m pc ls [.int (bo v)])) → W p l e rm s m av.toArray below meth c s.heap [] 0 0 Q (F0 m 0 ls [])) :
    Met l y (ws_ y cc n (some .boolean)) rm (cP D ty w sz av) (cQi D ty w sz post w1) 0 0 (va_A w sz) := by
  refine Met.ofW (cc := cc) (maxL := n) (ret := (some .boolean)) hy rfl ?_
  intro p e s m args below meth c s₁ B hml hv
  obtain ⟨rfl, hsz, hP, hK, hD0⟩ := hv
  have hts := atoms_spec (ws := ws_ y cc n ((some .boolean))) B.pre
  have hts : ∀ w ∈ lw_all, w.before _ s = true := fun w h => hts w (List.mem_cons_of_mem _ h)
  have hown : s.vm.findClass y.cls = some m.cls := findClass_of_methodNamed B.named
  have hl := lv_entry av (n := n) hn
  rw [lg_entry_eq]
  generalize (lg_sl av ++ List.replicate (n - (lg_sl av).length) Slot.unset).toArray = ls at hl ⊢
  subst hsz
  have hD := hD0.self (sz := s.heap.size)
  have hlk := B.notSynchronized
  refine body p e s m below meth c ls _ (va_A w s.heap.size) ⟨B.exec, B.bytes, hml, hown, hts⟩ hP hK hD (fun q h => Or.inr h) va_S.rf hl (fun H locs pc ls v u hd hp hP1 hD1 hS1 => ?_)
  exact W.zret B.exec B.bytes B.returns (by cases v <;> rfl) (fun t ht hW => ⟨⟨_, u, rfl, hp, by rw [ht]; exact hP1, va_K.moved hW.alike hK, hD1⟩, hS1.F ht⟩) hS1.2.2 hd
section
variable {p : Program} {l : Launch} {e : Env} {R : Room} {s : State} {m : MethodId} {args : Array Value} {below : List Frame} {meth : Method} {c : Code} {H : Heap} {locs : List Loc} {cells slots : Nat} {Q : State → Prop} {cc : ByteArray} {pc nL : Nat} {ls : Array Slot} {rest : List Value} {D : va_G} {A : Nat → Prop} {H0 : Heap}
variable {own C : String} {T : u_T} {N ci idx n maxL : Nat} {y : MethodName} {bytes : ByteArray} {ret : Option FieldType} {rm : Room} {ty : List (ClassId × FieldType)} {w : va_W} {h : Nat} {fs : List Value} {As st : List Value}
theorem kr_V {r : Int32} (hC : CallFix p m c cc nL s args lw_all own) (hM : Met l y (ws_ y bytes maxL ret) rm (rP D ty w (.ref h :: As)) (QcRead r) 0 0 (fun _ => False)) (cw : CallW R s args own C idx y bytes maxL ret (ws_ y bytes maxL ret) rm 0 0 n) (hw : w[0]? = some (h, .inr (ci, fs))) (hci : vwCl[ci]? = some (C, T, N)) (hn : As.length = n) (hl : ls.size = nL) (hst : st = As.reverse ++ .ref h :: rest) (hW : (rest.map fun v => v.category).sum ≤ 8) (hcs : cells ≤ R.cells ∧ slots ≤ R.slots) (hP : va_P D vwCl w H) (hK : va_K D vwCl ty s) (hdg : decode cc pc = .ok (.invokevirtual idx, 3)) (k : W p l e R s m args below meth c H locs cells slots Q (F0 m (pc + 3) ls (.int r :: rest))) : W p l e R s m args below meth c H locs cells slots Q (F0 m pc ls st) :=
  W.callR (W.runV (As := As) (rest := rest) hC hM cw ⟨fun a U g mk q => by obtain ⟨q0, qP, qK⟩ := q; exact ⟨q0, qP, va_K.moved (u := U) (U := U.calling g mk a) (Vm.Alike.refl U.vm) qK⟩, va_recv hK hP hci hw, fun U hU hW => ⟨rfl, by rw [hU]; exact hP, va_K.moved hW.alike hK⟩⟩ rfl hn hl hst (lv_room hW) hdg hcs) k
theorem kr_S {r : Int32} (hC : CallFix p m c cc nL s args lw_all own) (hM : Met l y (ws_ y bytes maxL ret) rm (rP D ty w As) (QcRead r) 0 0 (fun _ => False)) (cw : CallB R s args own idx y bytes maxL ret (ws_ y bytes maxL ret) rm 0 0 n ∧ (Cond.static y).before args s = true) (hn : As.length = n) (hl : ls.size = nL) (hst : st = As.reverse ++ rest) (hW : (rest.map fun v => v.category).sum ≤ 8) (hcs : cells ≤ R.cells ∧ slots ≤ R.slots) (hP : va_P D vwCl w H) (hK : va_K D vwCl ty s) (hdg : decode cc pc = .ok (.invokestatic idx, 3)) (k : W p l e R s m args below meth c H locs cells slots Q (F0 m (pc + 3) ls (.int r :: rest))) : W p l e R s m args below meth c H locs cells slots Q (F0 m pc ls st) :=
  W.callR (W.runS (As := As) (rest := rest) hC hM cw ⟨fun a U g mk q => by obtain ⟨q0, qP, qK⟩ := q; exact ⟨q0, qP, va_K.moved (u := U) (U := U.calling g mk a) (Vm.Alike.refl U.vm) qK⟩, fun U hU hW => ⟨rfl, by rw [hU]; exact hP, va_K.moved hW.alike hK⟩⟩ rfl hn hl hst (lv_room hW) hdg hcs) k
theorem va_all {A0 : Nat → Prop} {w : va_W} {H0 H : Heap} {locs : List Loc} (hD : va_D A0 w) (hS : va_S A0 H0 H locs) (hA : ∀ q, H0.size ≤ q → A0 q) : ∀ q, va_A w H.size q → A0 q := by
  intro q h
  rcases h with ⟨k, e, h⟩ | h
  · exact hD.2 k (q, e) h
  · exact hA q (Nat.le_trans hS.1 h)
theorem km_v {S : Type} {post : S → Prop} {w1 : S → va_W} (hC : CallFix p m c cc nL s args lw_all own) (hM : Met l y (ws_ y bytes maxL ret) rm (cP D ty w H.size (.ref h :: As)) (cQv D ty w H.size post w1) 0 0 (va_A w H.size)) (cw : CallW R s args own C idx y bytes maxL ret (ws_ y bytes maxL ret) rm 0 0 n) (hw : w[0]? = some (h, .inr (ci, fs))) (hci : vwCl[ci]? = some (C, T, N)) (hn : As.length = n) (hl : ls.size = nL) (hst : st = As.reverse ++ .ref h :: rest) (hW : (rest.map fun v => v.category).sum ≤ 8) (hcs : cells ≤ R.cells ∧ slots ≤ R.slots) (hP : va_P D vwCl w H) (hK : va_K D vwCl ty s) (hD : va_D A w) (hS : va_S A H0 H locs) (hA : ∀ q, H0.size ≤ q → A q) (hdg : decode cc pc = .ok (.invokevirtual idx, 3)) (kk : ∀ (u : S) (H1 : Heap) (locs1 : List Loc), post u → va_P D vwCl (w1 u) H1 → va_D A (w1 u) → va_S A H0 H1 locs1 → W p l e R s m args below meth c H1 locs1 cells slots Q (F0 m (pc + 3) ls rest)) : W p l e R s m args below meth c H locs cells slots Q (F0 m pc ls st) := by
  have hF := va_all hD hS hA
  refine va_callv (va_runV (As := As) (rest := rest) hC hM cw ⟨fun a U g mk q => by obtain ⟨q0, q1, qP, qK, qD⟩ := q; exact ⟨q0, q1, qP, va_K.moved (u := U) (U := U.calling g mk a) (Vm.Alike.refl U.vm) qK, qD⟩, va_recv hK hP hci hw, fun U hU hW => ⟨rfl, by rw [hU], by rw [hU]; exact hP, va_K.moved hW.alike hK, hD.weaken (fun _ _ _ _ => trivial)⟩⟩ rfl hn hl hst (lv_room hW) hdg hcs) hS (fun q _ hq => hF q hq) hF (fun u t H1 locs1 ht hvm hw1 hB hz1 hk1 hS1 => ?_)
  obtain ⟨hP1, hK1, hD1⟩ := hB
  rw [ht] at hP1
  exact kk u H1 locs1 hw1 hP1 (hD1.weaken (fun _ q _ hq => hF q.1 hq)) hS1
theorem km_i {S : Type} {post : Int32 → S → Prop} {w1 : S → va_W} (hC : CallFix p m c cc nL s args lw_all own) (hM : Met l y (ws_ y bytes maxL ret) rm (cP D ty w H.size (.ref h :: As)) (cQi D ty w H.size post w1) 0 0 (va_A w H.size)) (cw : CallW R s args own C idx y bytes maxL ret (ws_ y bytes maxL ret) rm 0 0 n) (hw : w[0]? = some (h, .inr (ci, fs))) (hci : vwCl[ci]? = some (C, T, N)) (hn : As.length = n) (hl : ls.size = nL) (hst : st = As.reverse ++ .ref h :: rest) (hW : (rest.map fun v => v.category).sum ≤ 8) (hcs : cells ≤ R.cells ∧ slots ≤ R.slots) (hP : va_P D vwCl w H) (hK : va_K D vwCl ty s) (hD : va_D A w) (hS : va_S A H0 H locs) (hA : ∀ q, H0.size ≤ q → A q) (hdg : decode cc pc = .ok (.invokevirtual idx, 3)) (kk : ∀ (r : Int32) (u : S) (H1 : Heap) (locs1 : List Loc), post r u → va_P D vwCl (w1 u) H1 → va_D A (w1 u) → va_S A H0 H1 locs1 → W p l e R s m args below meth c H1 locs1 cells slots Q (F0 m (pc + 3) ls (.int r :: rest))) : W p l e R s m args below meth c H locs cells slots Q (F0 m pc ls st) := by
  have hF := va_all hD hS hA
  refine va_calli (va_runV (As := As) (rest := rest) hC hM cw ⟨fun a U g mk q => by obtain ⟨q0, q1, qP, qK, qD⟩ := q; exact ⟨q0, q1, qP, va_K.moved (u := U) (U := U.calling g mk a) (Vm.Alike.refl U.vm) qK, qD⟩, va_recv hK hP hci hw, fun U hU hW => ⟨rfl, by rw [hU], by rw [hU]; exact hP, va_K.moved hW.alike hK, hD.weaken (fun _ _ _ _ => trivial)⟩⟩ rfl hn hl hst (lv_room hW) hdg hcs) hS (fun q _ hq => hF q hq) hF (fun r u t H1 locs1 ht hvm hw1 hB hz1 hk1 hS1 => ?_)
  obtain ⟨hP1, hK1, hD1⟩ := hB
  rw [ht] at hP1
  exact kk r u H1 locs1 hw1 hP1 (hD1.weaken (fun _ q _ hq => hF q.1 hq)) hS1
end
end
section
/-! Int32 by its bits (the kit's family 'bt', pasted), and the three bits of a gap -/
def bt (x : Int32) (i : Nat) : Bool := x.toBitVec.getLsbD i
theorem b_ext {x y : Int32} (h : ∀ i, i < 32 → bt x i = bt y i) : x = y := Int32.toBitVec_inj.mp (BitVec.eq_of_getLsbD_eq (fun i hi => h i hi))
theorem b_or (x y : Int32) (i : Nat) : bt (x ||| y) i = (bt x i || bt y i) := by unfold bt; rw [Int32.toBitVec_or, BitVec.getLsbD_or]
theorem b_and (x y : Int32) (i : Nat) : bt (x &&& y) i = (bt x i && bt y i) := by unfold bt; rw [Int32.toBitVec_and, BitVec.getLsbD_and]
theorem b_xor (x y : Int32) (i : Nat) : bt (x ^^^ y) i = (bt x i ^^ bt y i) := by unfold bt; rw [Int32.toBitVec_xor, BitVec.getLsbD_xor]
theorem b_big {x : Int32} {i : Nat} (h : 32 ≤ i) : bt x i = false := BitVec.getLsbD_of_ge _ _ h
theorem b_m1 : ∀ i, i < 32 → bt (-1) i = true := by decide +kernel
theorem b_0 (i : Nat) : bt 0 i = false := BitVec.getLsbD_zero
theorem s_l : ∀ n, n < 32 → ((nI n &&& 31).toBitVec.smod 32).toNat = n := by decide +kernel
theorem s_u : ∀ n, n < 32 → (((nI n).toUInt32 &&& Int32.toUInt32 31).toBitVec % 32).toNat = n := by decide +kernel
theorem b_shl (n : Nat) (hn : n < 32) (x : Int32) {i : Nat} (hi : i < 32) : bt (x <<< (nI n &&& 31)) i = (decide (n ≤ i) && bt x (i - n)) := by
  unfold bt
  rw [Int32.toBitVec_shiftLeft]
  show (x.toBitVec <<< ((nI n &&& 31).toBitVec.smod 32).toNat).getLsbD i = _
  rw [s_l n hn, BitVec.getLsbD_shiftLeft]
  rcases Nat.lt_or_ge i n with h | h
  · simp [h, Nat.not_le.mpr h]
  · simp [hi, h, Nat.not_lt.mpr h]
theorem b_ushr (n : Nat) (hn : n < 32) (x : Int32) (i : Nat) : bt ((x.toUInt32 >>> ((nI n).toUInt32 &&& Int32.toUInt32 31)).toInt32) i = bt x (n + i) := by
  show (x.toUInt32 >>> ((nI n).toUInt32 &&& Int32.toUInt32 31)).toBitVec.getLsbD i = x.toUInt32.toBitVec.getLsbD (n + i)
  rw [UInt32.toBitVec_shiftRight]
  show (x.toUInt32.toBitVec >>> (((nI n).toUInt32 &&& Int32.toUInt32 31).toBitVec % 32).toNat).getLsbD i = _
  rw [s_u n hn, BitVec.getLsbD_ushiftRight]
theorem b_7 (i : Nat) : bt 7 i = decide (i < 3) := by
  rcases Nat.lt_or_ge i 32 with h | h
  · exact (by decide +kernel : ∀ i, i < 32 → bt 7 i = decide (i < 3)) i h
  · rw [b_big h, decide_eq_false (by omega)]
theorem b_1 (i : Nat) : bt 1 i = decide (i = 0) := by
  rcases Nat.lt_or_ge i 32 with h | h
  · exact (by decide +kernel : ∀ i, i < 32 → bt 1 i = decide (i = 0)) i h
  · rw [b_big h, decide_eq_false (by omega)]
def mk3 (a b c : Bool) : Int32 := match a, b, c with
  | false, false, false => 0
  | true, false, false => 1
  | false, true, false => 2
  | true, true, false => 3
  | false, false, true => 4
  | true, false, true => 5
  | false, true, true => 6
  | true, true, true => 7
def pb (x : Int32) (g b : Nat) : Bool := bt x (3 * g + b)
def dm (x : Int32) (g : Nat) : Int32 := mk3 (pb x g 0) (pb x g 1) (pb x g 2)
theorem mk3_bt (a b c : Bool) (i : Nat) : bt (mk3 a b c) i = if i = 0 then a else if i = 1 then b else if i = 2 then c else false := by
  rcases Nat.lt_or_ge i 32 with h | h
  · exact (by decide +kernel : ∀ i, i < 32 → ∀ a b c, bt (mk3 a b c) i = if i = 0 then a else if i = 1 then b else if i = 2 then c else false) i h a b c
  · rw [b_big h, if_neg (by omega), if_neg (by omega), if_neg (by omega)]
/-- domainOf's answer -/
theorem dm_eq (x : Int32) {g : Nat} (hg : g ≤ 9) : ((x.toUInt32 >>> ((nI (3 * g)).toUInt32 &&& Int32.toUInt32 31)).toInt32 &&& nI 7) = dm x g := by
  refine b_ext (fun i hi => ?_)
  rw [b_and, b_ushr _ (by omega), show nI 7 = 7 from rfl, b_7, dm, mk3_bt]
  unfold pb
  by_cases h0 : i = 0
  · subst h0; simp
  · by_cases h1 : i = 1
    · subst h1; simp
    · by_cases h2 : i = 2
      · subst h2; simp
      · have : ¬ i < 3 := by omega
        simp [h0, h1, h2, this]
/-- restrict's answer -/
def rs (x : Int32) (g : Nat) (t : Int32) : Int32 := (x &&& ((nI 7 <<< (nI (3 * g) &&& 31)) ^^^ (-1))) ||| (((((x.toUInt32 >>> ((nI (3 * g)).toUInt32 &&& Int32.toUInt32 31)).toInt32) &&& t) &&& nI 7) <<< (nI (3 * g) &&& 31))
theorem rs_bt (x : Int32) {g : Nat} (t : Int32) (hg : g ≤ 9) {i : Nat} (hi : i < 32) : bt (rs x g t) i = if i / 3 = g then bt x i && bt t (i % 3) else bt x i := by
  unfold rs
  rw [b_or, b_and, b_xor, b_shl _ (by omega) _ hi, b_shl _ (by omega) _ hi, b_and, b_and, b_ushr _ (by omega), b_m1 i hi, show nI 7 = 7 from rfl, b_7]
  by_cases h : i / 3 = g
  · have h1 : 3 * g ≤ i := by omega
    have h2 : i - 3 * g < 3 := by omega
    have h3 : 3 * g + (i - 3 * g) = i := by omega
    have h4 : i % 3 = i - 3 * g := by omega
    simp [h, h1, h2, h3, h4]
  · rw [if_neg h]
    by_cases h1 : 3 * g ≤ i
    · have h2 : ¬ i - 3 * g < 3 := by omega
      simp [h1, h2]
    · simp [h1]
theorem pb_rs (x : Int32) {g h b : Nat} (t : Int32) (hg : g ≤ 9) (hh : h ≤ 9) (hb : b < 3) : pb (rs x g t) h b = if h = g then pb x g b && bt t b else pb x h b := by
  unfold pb
  rw [rs_bt x t hg (by omega), show (3 * h + b) / 3 = h by omega, show (3 * h + b) % 3 = b by omega]
  by_cases e : h = g
  · subst e; simp
  · simp [e]
def lw (x : Int32) (g : Nat) : Nat := if pb x g 0 then 0 else if pb x g 1 then 1 else 2
def hw (x : Int32) (g : Nat) : Nat := if pb x g 2 then 2 else if pb x g 1 then 1 else 0
theorem mk3_a1 (a b c : Bool) : mk3 a b c &&& nI 1 = bo a := by cases a <;> cases b <;> cases c <;> decide
theorem mk3_a2 (a b c : Bool) : mk3 a b c &&& nI 2 = (if b then nI 2 else 0) := by cases a <;> cases b <;> cases c <;> decide
theorem mk3_a4 (a b c : Bool) : mk3 a b c &&& nI 4 = (if c then nI 4 else 0) := by cases a <;> cases b <;> cases c <;> decide
theorem mk3_a6 (a b c : Bool) : (mk3 a b c &&& nI 6 = 0) ↔ (b || c) = false := by cases a <;> cases b <;> cases c <;> decide
theorem mk3_0 (a b c : Bool) : (mk3 a b c = 0) ↔ (a || b || c) = false := by cases a <;> cases b <;> cases c <;> decide
theorem mk3_1 (a b c : Bool) : (mk3 a b c = 1) ↔ (a && !b && !c) = true := by cases a <;> cases b <;> cases c <;> decide
theorem mk3_op (a b c : Bool) : (mk3 a b c &&& (mk3 a b c - nI 1) = 0) ↔ ((a && b) || (a && c) || (b && c)) = false := by cases a <;> cases b <;> cases c <;> decide
end
section
/-! BridgeBoard's narrowing, as plain functions: G gaps, N islands, nr ds: a gap's ends (numbers of islands), du: what an island is due, cr: which gaps cross -/
def bbI (G N : Nat) (nr ds du : Nat → Nat) (cr : Nat → Nat → Bool) (fNu fCo fNe fDi fCr : Nat → Int32) : Prop :=
  G ≤ 8 ∧ N ≤ 7 ∧ (∀ g, g < G → fNe g = nI (nr g) ∧ fDi g = nI (ds g) ∧ nr g < N ∧ ds g < N) ∧ (∀ i, i < N → ∃ c, c < 36 ∧ fCo i = nI c ∧ fNu c = nI (du i) ∧ du i ≤ 8) ∧ ∀ g h, g < G → h < G → bt (fCr g) h = cr g h
def tc (nr ds : Nat → Nat) (g i : Nat) : Bool := nr g == i || ds g == i
def sumT (f : Nat → Nat) : Nat → Nat
  | 0 => 0
  | n + 1 => sumT f n + f n
def onb (x y : Int32) : Bool := decide (0 ≤ x) && decide (x < 6) && decide (0 ≤ y) && decide (y < 6)
def sf (lo hi : Int32) : Int32 := mk3 (decide (lo ≤ 0) && decide (0 ≤ hi)) (decide (lo ≤ 1) && decide (1 ≤ hi)) (decide (lo ≤ 2) && decide (2 ≤ hi))
def sfm (lo hi : Int32) (b : Nat) : Int32 := mk3 (decide (0 < b) && (decide (lo ≤ 0) && decide (0 ≤ hi))) (decide (1 < b) && (decide (lo ≤ 1) && decide (1 ≤ hi))) (decide (2 < b) && (decide (lo ≤ 2) && decide (2 ≤ hi)))
theorem sfm_0 (lo hi : Int32) : sfm lo hi 0 = nI 0 := by simp [sfm, mk3]; rfl
theorem sfm_3 (lo hi : Int32) : sfm lo hi 3 = sf lo hi := by simp [sfm, sf]
theorem sfm_s (lo hi : Int32) {b : Nat} (hb : b < 3) : (if lo ≤ nI b ∧ nI b ≤ hi then sfm lo hi b ||| (nI 1 <<< (nI b &&& 31)) else sfm lo hi b) = sfm lo hi (b + 1) := by
  rcases (show b = 0 ∨ b = 1 ∨ b = 2 by omega) with rfl | rfl | rfl
  · show (if lo ≤ (0 : Int32) ∧ (0 : Int32) ≤ hi then _ else _) = _
    unfold sfm
    by_cases h1 : lo ≤ (0 : Int32) <;> by_cases h2 : (0 : Int32) ≤ hi <;> simp [h1, h2] <;> decide
  · show (if lo ≤ (1 : Int32) ∧ (1 : Int32) ≤ hi then _ else _) = _
    unfold sfm
    by_cases h1 : lo ≤ (1 : Int32) <;> by_cases h2 : (1 : Int32) ≤ hi <;> simp [h1, h2] <;> (generalize (decide (lo ≤ 0) && decide (0 ≤ hi)) = u; cases u <;> decide)
  · show (if lo ≤ (2 : Int32) ∧ (2 : Int32) ≤ hi then _ else _) = _
    unfold sfm
    by_cases h1 : lo ≤ (2 : Int32) <;> by_cases h2 : (2 : Int32) ≤ hi <;> simp [h1, h2] <;> (generalize (decide (lo ≤ 0) && decide (0 ≤ hi)) = u; generalize (decide (lo ≤ 1) && decide (1 ≤ hi)) = v; cases u <;> cases v <;> decide)
end
section
/-! BridgeBoard: domainOf, lowest, highest, restrict, setFrom, touches, onBoard -/
abbrev rm_b_domainOf : Room := { frames := 0, cells := 0, slots := 0, locals := 0 }
set_option maxHeartbeats 4000000 in
set_option maxRecDepth 100000 in
/-- domainOf -/
theorem t_b_domainOf (l : Launch) (D : va_G)  (x : Int32) (g : Nat) (hg : g ≤ 9) : Met l yX0_domainOf (ws_ yX0_domainOf cX0_domainOf 2 (some .int)) rm_b_domainOf (rP D [] [] [.int x, .int (nI g)]) (QcRead (dm x g)) 0 0 (fun _ => False) := by
  refine en_ri (by decide) (Nat.le_of_ble_eq_true rfl) ?_
  intro p e s m below meth c ls Q hC hP hK hl hret
  have hC : CallFix p m c cX0_domainOf 2 s _ lw_all RX0 := hC
  have hx := hC.1
  have hb := hC.2.1
  have hl : lv_has ls 2 [(0, .int x), (1, .int (nI g))] := hl
  refine lv_iload_n hx hb dX0_domainOf_0 rfl (lv_at hl 0 rfl) ?_
  refine lv_iconst (v := nI 3) hx hb dX0_domainOf_1 (by decide) ?_
  refine lv_iload_n hx hb dX0_domainOf_2 rfl (lv_at hl 1 rfl) ?_
  refine nn_mul hx hb dX0_domainOf_3 ?_
  refine lv_iushr (v := ((x).toUInt32 >>> ((nI (3 * g)).toUInt32 &&& Int32.toUInt32 31)).toInt32) hx hb dX0_domainOf_4 rfl ?_
  refine lv_bipush (v := nI 7) hx hb dX0_domainOf_5 (by decide) ?_
  refine lv_iand hx hb dX0_domainOf_7 ?_
  refine ct_i (y := dm x g) (dm_eq x hg) ?_
  exact hret 8 _ _ dX0_domainOf_8 (rfl)
theorem k_b_domainOf {p : Program} {l : Launch} {e : Env} {R : Room} {s : State} {m : MethodId} {args : Array Value} {below : List Frame} {meth : Method} {c : Code} {H : Heap} {locs : List Loc} {Q : State → Prop} {cc : ByteArray} {pc nL : Nat} {ls : Array Slot} {rest : List Value} {D : va_G} {ty : List (ClassId × FieldType)} {x : Int32} {g : Nat} (hC : CallFix p m c cc nL s args lw_all RX0) (hK : va_K D vwCl ty s) (hR : rm_b_domainOf.frames + 1 ≤ R.frames ∧ 8 + (2 + 11) + rm_b_domainOf.locals ≤ R.locals) (hl : ls.size = nL) (hW : (rest.map fun v => v.category).sum ≤ 8) (hg : g ≤ 9) (hdg : decode cc pc = .ok (.invokestatic 67, 3)) (k : W p l e R s m args below meth c H locs 0 0 Q (F0 m (pc + 3) ls (.int (dm x g) :: rest))) : W p l e R s m args below meth c H locs 0 0 Q (F0 m pc ls (.int (nI g) :: .int x :: rest)) := kr_S hC (t_b_domainOf l D x g hg) (va_cwS 2 hC.2.2.2.2 (lw_S q143 q144 q24 q145) rfl rfl rfl (by decide +kernel) hR) rfl hl rfl hW ⟨Nat.zero_le _, Nat.zero_le _⟩ (fun k q h => by simp at h) ⟨hK.1, fun k q h => by simp at h⟩ hdg k
abbrev rm_b_restrict : Room := { frames := 0, cells := 0, slots := 0, locals := 0 }
set_option maxHeartbeats 4000000 in
set_option maxRecDepth 100000 in
/-- restrict -/
theorem t_b_restrict (l : Launch) (D : va_G)  (x : Int32) (g : Nat) (t : Int32)  : Met l yX0_restrict (ws_ yX0_restrict cX0_restrict 3 (some .int)) rm_b_restrict (rP D [] [] [.int x, .int (nI g), .int t]) (QcRead (rs x g t)) 0 0 (fun _ => False) := by
  refine en_ri (by decide) (Nat.le_of_ble_eq_true rfl) ?_
  intro p e s m below meth c ls Q hC hP hK hl hret
  have hC : CallFix p m c cX0_restrict 3 s _ lw_all RX0 := hC
  have hx := hC.1
  have hb := hC.2.1
  have hl : lv_has ls 3 [(0, .int x), (1, .int (nI g)), (2, .int t)] := hl
  refine lv_iload_n hx hb dX0_restrict_0 rfl (lv_at hl 0 rfl) ?_
  refine lv_bipush (v := nI 7) hx hb dX0_restrict_1 (by decide) ?_
  refine lv_iconst (v := nI 3) hx hb dX0_restrict_3 (by decide) ?_
  refine lv_iload_n hx hb dX0_restrict_4 rfl (lv_at hl 1 rfl) ?_
  refine nn_mul hx hb dX0_restrict_5 ?_
  refine lv_ishl hx hb dX0_restrict_6 ?_
  refine lv_iconst (v := (-1)) hx hb dX0_restrict_7 (by decide) ?_
  refine lv_ixor hx hb dX0_restrict_8 ?_
  refine lv_iand hx hb dX0_restrict_9 ?_
  refine lv_iload_n hx hb dX0_restrict_10 rfl (lv_at hl 0 rfl) ?_
  refine lv_iconst (v := nI 3) hx hb dX0_restrict_11 (by decide) ?_
  refine lv_iload_n hx hb dX0_restrict_12 rfl (lv_at hl 1 rfl) ?_
  refine nn_mul hx hb dX0_restrict_13 ?_
  refine lv_iushr (v := ((x).toUInt32 >>> ((nI (3 * g)).toUInt32 &&& Int32.toUInt32 31)).toInt32) hx hb dX0_restrict_14 rfl ?_
  refine lv_iload_n hx hb dX0_restrict_15 rfl (lv_at hl 2 rfl) ?_
  refine lv_iand hx hb dX0_restrict_16 ?_
  refine lv_bipush (v := nI 7) hx hb dX0_restrict_17 (by decide) ?_
  refine lv_iand hx hb dX0_restrict_19 ?_
  refine lv_iconst (v := nI 3) hx hb dX0_restrict_20 (by decide) ?_
  refine lv_iload_n hx hb dX0_restrict_21 rfl (lv_at hl 1 rfl) ?_
  refine nn_mul hx hb dX0_restrict_22 ?_
  refine lv_ishl hx hb dX0_restrict_23 ?_
  refine lv_ior hx hb dX0_restrict_24 ?_
  exact hret 25 _ _ dX0_restrict_25 (rfl)
theorem k_b_restrict {p : Program} {l : Launch} {e : Env} {R : Room} {s : State} {m : MethodId} {args : Array Value} {below : List Frame} {meth : Method} {c : Code} {H : Heap} {locs : List Loc} {Q : State → Prop} {cc : ByteArray} {pc nL : Nat} {ls : Array Slot} {rest : List Value} {D : va_G} {ty : List (ClassId × FieldType)} {x : Int32} {g : Nat} {t : Int32} (hC : CallFix p m c cc nL s args lw_all RX0) (hK : va_K D vwCl ty s) (hR : rm_b_restrict.frames + 1 ≤ R.frames ∧ 8 + (3 + 11) + rm_b_restrict.locals ≤ R.locals) (hl : ls.size = nL) (hW : (rest.map fun v => v.category).sum ≤ 8)  (hdg : decode cc pc = .ok (.invokestatic 107, 3)) (k : W p l e R s m args below meth c H locs 0 0 Q (F0 m (pc + 3) ls (.int (rs x g t) :: rest))) : W p l e R s m args below meth c H locs 0 0 Q (F0 m pc ls (.int t :: .int (nI g) :: .int x :: rest)) := kr_S hC (t_b_restrict l D x g t ) (va_cwS 3 hC.2.2.2.2 (lw_S q155 q156 q24 q157) rfl rfl rfl (by decide +kernel) hR) rfl hl rfl hW ⟨Nat.zero_le _, Nat.zero_le _⟩ (fun k q h => by simp at h) ⟨hK.1, fun k q h => by simp at h⟩ hdg k
abbrev rm_b_lowest : Room := { frames := 0, cells := 0, slots := 0, locals := 0 }
set_option maxHeartbeats 4000000 in
set_option maxRecDepth 100000 in
/-- lowest -/
theorem t_b_lowest (l : Launch) (D : va_G)  (a1 a2 a3 : Bool)  : Met l yX0_lowest (ws_ yX0_lowest cX0_lowest 1 (some .int)) rm_b_lowest (rP D [] [] [.int (mk3 a1 a2 a3)]) (QcRead (nI (if a1 then 0 else if a2 then 1 else 2))) 0 0 (fun _ => False) := by
  refine en_ri (by decide) (Nat.le_of_ble_eq_true rfl) ?_
  intro p e s m below meth c ls Q hC hP hK hl hret
  have hC : CallFix p m c cX0_lowest 1 s _ lw_all RX0 := hC
  have hx := hC.1
  have hb := hC.2.1
  have hl : lv_has ls 1 [(0, .int (mk3 a1 a2 a3))] := hl
  refine lv_iload_n hx hb dX0_lowest_0 rfl (lv_at hl 0 rfl) ?_
  refine lv_iconst (v := nI 1) hx hb dX0_lowest_1 (by decide) ?_
  refine lv_iand hx hb dX0_lowest_2 ?_
  refine ct_i (y := bo a1) (mk3_a1 a1 a2 a3) ?_
  refine bz_eq (tgt := 10) hx hb dX0_lowest_3 (by decide) (fun c1 => ?_) (fun c1 => ?_)
  · refine lv_iload_n hx hb dX0_lowest_10 rfl (lv_at hl 0 rfl) ?_
    refine lv_iconst (v := nI 2) hx hb dX0_lowest_11 (by decide) ?_
    refine lv_iand hx hb dX0_lowest_12 ?_
    refine ct_i (y := (if a2 then nI 2 else 0)) (mk3_a2 a1 a2 a3) ?_
    refine lv_if_eq (tgt := 20) hx hb dX0_lowest_13 (by decide) (fun c2 => ?_) (fun c2 => ?_)
    · refine lv_iconst (v := nI 2) hx hb dX0_lowest_20 (by decide) ?_
      exact hret 21 _ _ dX0_lowest_21 (by rw [c1] at *; cases a2 <;> first | rfl | exact absurd c2 (by decide) | exact absurd rfl c2)
    · refine lv_iconst (v := nI 1) hx hb dX0_lowest_16 (by decide) ?_
      refine lv_goto (tgt := 21) hx hb dX0_lowest_17 (by decide) ?_
      exact hret 21 _ _ dX0_lowest_21 (by rw [c1] at *; cases a2 <;> first | rfl | exact absurd c2 (by decide) | exact absurd rfl c2)
  · refine lv_iconst (v := nI 0) hx hb dX0_lowest_6 (by decide) ?_
    refine lv_goto (tgt := 21) hx hb dX0_lowest_7 (by decide) ?_
    exact hret 21 _ _ dX0_lowest_21 (by rw [c1] at *; cases a2 <;> rfl)
theorem k_b_lowest {p : Program} {l : Launch} {e : Env} {R : Room} {s : State} {m : MethodId} {args : Array Value} {below : List Frame} {meth : Method} {c : Code} {H : Heap} {locs : List Loc} {Q : State → Prop} {cc : ByteArray} {pc nL : Nat} {ls : Array Slot} {rest : List Value} {D : va_G} {ty : List (ClassId × FieldType)} {a1 a2 a3 : Bool} (hC : CallFix p m c cc nL s args lw_all RX0) (hK : va_K D vwCl ty s) (hR : rm_b_lowest.frames + 1 ≤ R.frames ∧ 8 + (1 + 11) + rm_b_lowest.locals ≤ R.locals) (hl : ls.size = nL) (hW : (rest.map fun v => v.category).sum ≤ 8)  (hdg : decode cc pc = .ok (.invokestatic 71, 3)) (k : W p l e R s m args below meth c H locs 0 0 Q (F0 m (pc + 3) ls (.int (nI (if a1 then 0 else if a2 then 1 else 2)) :: rest))) : W p l e R s m args below meth c H locs 0 0 Q (F0 m pc ls (.int (mk3 a1 a2 a3) :: rest)) := kr_S hC (t_b_lowest l D a1 a2 a3 ) (va_cwS 1 hC.2.2.2.2 (lw_S q146 q147 q24 q148) rfl rfl rfl (by decide +kernel) hR) rfl hl rfl hW ⟨Nat.zero_le _, Nat.zero_le _⟩ (fun k q h => by simp at h) ⟨hK.1, fun k q h => by simp at h⟩ hdg k
abbrev rm_b_highest : Room := { frames := 0, cells := 0, slots := 0, locals := 0 }
set_option maxHeartbeats 4000000 in
set_option maxRecDepth 100000 in
/-- highest -/
theorem t_b_highest (l : Launch) (D : va_G)  (a1 a2 a3 : Bool)  : Met l yX0_highest (ws_ yX0_highest cX0_highest 1 (some .int)) rm_b_highest (rP D [] [] [.int (mk3 a1 a2 a3)]) (QcRead (nI (if a3 then 2 else if a2 then 1 else 0))) 0 0 (fun _ => False) := by
  refine en_ri (by decide) (Nat.le_of_ble_eq_true rfl) ?_
  intro p e s m below meth c ls Q hC hP hK hl hret
  have hC : CallFix p m c cX0_highest 1 s _ lw_all RX0 := hC
  have hx := hC.1
  have hb := hC.2.1
  have hl : lv_has ls 1 [(0, .int (mk3 a1 a2 a3))] := hl
  refine lv_iload_n hx hb dX0_highest_0 rfl (lv_at hl 0 rfl) ?_
  refine lv_iconst (v := nI 4) hx hb dX0_highest_1 (by decide) ?_
  refine lv_iand hx hb dX0_highest_2 ?_
  refine ct_i (y := (if a3 then nI 4 else 0)) (mk3_a4 a1 a2 a3) ?_
  refine lv_if_eq (tgt := 10) hx hb dX0_highest_3 (by decide) (fun c1 => ?_) (fun c1 => ?_)
  · refine lv_iload_n hx hb dX0_highest_10 rfl (lv_at hl 0 rfl) ?_
    refine lv_iconst (v := nI 2) hx hb dX0_highest_11 (by decide) ?_
    refine lv_iand hx hb dX0_highest_12 ?_
    refine ct_i (y := (if a2 then nI 2 else 0)) (mk3_a2 a1 a2 a3) ?_
    refine lv_if_eq (tgt := 20) hx hb dX0_highest_13 (by decide) (fun c2 => ?_) (fun c2 => ?_)
    · refine lv_iconst (v := nI 0) hx hb dX0_highest_20 (by decide) ?_
      exact hret 21 _ _ dX0_highest_21 (by cases a3 <;> cases a2 <;> first | rfl | exact absurd c1 (by decide) | exact absurd rfl c1 | exact absurd c2 (by decide) | exact absurd rfl c2)
    · refine lv_iconst (v := nI 1) hx hb dX0_highest_16 (by decide) ?_
      refine lv_goto (tgt := 21) hx hb dX0_highest_17 (by decide) ?_
      exact hret 21 _ _ dX0_highest_21 (by cases a3 <;> cases a2 <;> first | rfl | exact absurd c1 (by decide) | exact absurd rfl c1 | exact absurd c2 (by decide) | exact absurd rfl c2)
  · refine lv_iconst (v := nI 2) hx hb dX0_highest_6 (by decide) ?_
    refine lv_goto (tgt := 21) hx hb dX0_highest_7 (by decide) ?_
    exact hret 21 _ _ dX0_highest_21 (by cases a3 <;> cases a2 <;> first | rfl | exact absurd c1 (by decide) | exact absurd rfl c1)
theorem k_b_highest {p : Program} {l : Launch} {e : Env} {R : Room} {s : State} {m : MethodId} {args : Array Value} {below : List Frame} {meth : Method} {c : Code} {H : Heap} {locs : List Loc} {Q : State → Prop} {cc : ByteArray} {pc nL : Nat} {ls : Array Slot} {rest : List Value} {D : va_G} {ty : List (ClassId × FieldType)} {a1 a2 a3 : Bool} (hC : CallFix p m c cc nL s args lw_all RX0) (hK : va_K D vwCl ty s) (hR : rm_b_highest.frames + 1 ≤ R.frames ∧ 8 + (1 + 11) + rm_b_highest.locals ≤ R.locals) (hl : ls.size = nL) (hW : (rest.map fun v => v.category).sum ≤ 8)  (hdg : decode cc pc = .ok (.invokestatic 101, 3)) (k : W p l e R s m args below meth c H locs 0 0 Q (F0 m (pc + 3) ls (.int (nI (if a3 then 2 else if a2 then 1 else 0)) :: rest))) : W p l e R s m args below meth c H locs 0 0 Q (F0 m pc ls (.int (mk3 a1 a2 a3) :: rest)) := kr_S hC (t_b_highest l D a1 a2 a3 ) (va_cwS 1 hC.2.2.2.2 (lw_S q149 q150 q24 q151) rfl rfl rfl (by decide +kernel) hR) rfl hl rfl hW ⟨Nat.zero_le _, Nat.zero_le _⟩ (fun k q h => by simp at h) ⟨hK.1, fun k q h => by simp at h⟩ hdg k
abbrev rm_b_setFrom : Room := { frames := 0, cells := 0, slots := 0, locals := 0 }
set_option maxHeartbeats 4000000 in
set_option maxRecDepth 100000 in
/-- setFrom -/
theorem t_b_setFrom (l : Launch) (D : va_G)  (lo hi : Int32)  : Met l yX0_setFrom (ws_ yX0_setFrom cX0_setFrom 4 (some .int)) rm_b_setFrom (rP D [] [] [.int lo, .int hi]) (QcRead (sf lo hi)) 0 0 (fun _ => False) := by
  refine en_ri (by decide) (Nat.le_of_ble_eq_true rfl) ?_
  intro p e s m below meth c ls Q hC hP hK hl hret
  have hC : CallFix p m c cX0_setFrom 4 s _ lw_all RX0 := hC
  have hx := hC.1
  have hb := hC.2.1
  have hl : lv_has ls 4 [(0, .int lo), (1, .int hi)] := hl
  refine lv_iconst (v := nI 0) hx hb dX0_setFrom_0 (by decide) ?_
  refine lv_istore_n (lv' := [(2, .int (nI 0)), (0, .int lo), (1, .int hi)]) hx hb dX0_setFrom_1 rfl hl (by decide) rfl (fun ls hl => ?_)
  refine lv_iconst (v := nI 0) hx hb dX0_setFrom_2 (by decide) ?_
  refine lv_istore_n (lv' := [(3, .int (nI 0)), (2, .int (nI 0)), (0, .int lo), (1, .int hi)]) hx hb dX0_setFrom_3 rfl hl (by decide) rfl (fun ls hl => ?_)
  have lp : ∀ (n : Nat) (b : Nat) (ls : Array Slot), b ≤ 3 → 3 < b + n → lv_has ls 4 [(0, .int lo), (1, .int hi), (2, .int (sfm lo hi b)), (3, .int (nI b))] → W p l e rm_b_setFrom s m ([.int lo, .int hi] : List Value).toArray below meth c s.heap [] 0 0 Q (F0 m 4 ls []) := by
    intro n
    induction n with
    | zero =>
      intro b ls hb3 hfu
      exact absurd hfu (by omega)
    | succ n ih =>
      intro b ls hb3 hfu hl
      refine lv_iload_n hx hb dX0_setFrom_4 rfl (lv_at hl 3 rfl) ?_
      refine lv_iconst (v := nI 3) hx hb dX0_setFrom_5 (by decide) ?_
      refine nb_ge (tgt := 31) hx hb dX0_setFrom_6 (by decide) (by omega) (by omega) (fun c1 => ?_) (fun c1 => ?_)
      · refine lv_iload_n hx hb dX0_setFrom_31 rfl (lv_at hl 2 rfl) ?_
        exact hret 32 _ _ dX0_setFrom_32 (by rw [show b = 3 by omega]; exact sfm_3 lo hi)
      · refine lv_iload_n hx hb dX0_setFrom_9 rfl (lv_at hl 3 rfl) ?_
        refine lv_iload_n hx hb dX0_setFrom_10 rfl (lv_at hl 0 rfl) ?_
        refine lv_icmp_lt (tgt := 25) hx hb dX0_setFrom_11 (by decide) (fun c2 => ?_) (fun c2 => ?_)
        · refine lv_iinc (v := nI (b + 1)) (lv' := [(3, .int (nI (b + 1))), (0, .int lo), (1, .int hi), (2, .int (sfm lo hi b))]) hx hb dX0_setFrom_25 hl (k := 3) rfl (nI_1 _) (by decide) rfl (fun ls hl => ?_)
          refine lv_goto (tgt := 4) hx hb dX0_setFrom_28 (by decide) ?_
          have es : sfm lo hi b = sfm lo hi (b + 1) := (if_neg (fun q => absurd c2 (Int32.not_lt.mpr q.1))).symm.trans (sfm_s lo hi c1)
          rw [es] at hl
          exact ih (b + 1) _ (by omega) (by omega) (lv_sub hl [1, 2, 3, 0] rfl)
        · refine lv_iload_n hx hb dX0_setFrom_14 rfl (lv_at hl 3 rfl) ?_
          refine lv_iload_n hx hb dX0_setFrom_15 rfl (lv_at hl 1 rfl) ?_
          refine lv_icmp_gt (tgt := 25) hx hb dX0_setFrom_16 (by decide) (fun c3 => ?_) (fun c3 => ?_)
          · refine lv_iinc (v := nI (b + 1)) (lv' := [(3, .int (nI (b + 1))), (0, .int lo), (1, .int hi), (2, .int (sfm lo hi b))]) hx hb dX0_setFrom_25 hl (k := 3) rfl (nI_1 _) (by decide) rfl (fun ls hl => ?_)
            refine lv_goto (tgt := 4) hx hb dX0_setFrom_28 (by decide) ?_
            have es : sfm lo hi b = sfm lo hi (b + 1) := (if_neg (fun q => absurd c3 (Int32.not_lt.mpr q.2))).symm.trans (sfm_s lo hi c1)
            rw [es] at hl
            exact ih (b + 1) _ (by omega) (by omega) (lv_sub hl [1, 2, 3, 0] rfl)
          · refine lv_iload_n hx hb dX0_setFrom_19 rfl (lv_at hl 2 rfl) ?_
            refine lv_iconst (v := nI 1) hx hb dX0_setFrom_20 (by decide) ?_
            refine lv_iload_n hx hb dX0_setFrom_21 rfl (lv_at hl 3 rfl) ?_
            refine lv_ishl hx hb dX0_setFrom_22 ?_
            refine lv_ior hx hb dX0_setFrom_23 ?_
            refine ct_i (y := sfm lo hi (b + 1)) (((sfm_s lo hi c1).symm.trans (if_pos ⟨Int32.not_lt.mp c2, Int32.not_lt.mp c3⟩)).symm) ?_
            refine lv_istore_n (lv' := [(2, .int (sfm lo hi (b + 1))), (0, .int lo), (1, .int hi), (3, .int (nI b))]) hx hb dX0_setFrom_24 rfl hl (by decide) rfl (fun ls hl => ?_)
            refine lv_iinc (v := nI (b + 1)) (lv' := [(3, .int (nI (b + 1))), (2, .int (sfm lo hi (b + 1))), (0, .int lo), (1, .int hi)]) hx hb dX0_setFrom_25 hl (k := 3) rfl (nI_1 _) (by decide) rfl (fun ls hl => ?_)
            refine lv_goto (tgt := 4) hx hb dX0_setFrom_28 (by decide) ?_
            exact ih (b + 1) _ (by omega) (by omega) (lv_sub hl [2, 3, 1, 0] rfl)
  have e0 : (nI 0 : Int32) = sfm lo hi 0 := (sfm_0 lo hi).symm
  have hl : lv_has ls 4 [(0, .int lo), (1, .int hi), (2, .int (sfm lo hi 0)), (3, .int (nI 0))] := by rw [← e0]; exact (lv_sub hl [2, 3, 1, 0] rfl)
  exact lp 4 0 _ (by omega) (by omega) hl
theorem k_b_setFrom {p : Program} {l : Launch} {e : Env} {R : Room} {s : State} {m : MethodId} {args : Array Value} {below : List Frame} {meth : Method} {c : Code} {H : Heap} {locs : List Loc} {Q : State → Prop} {cc : ByteArray} {pc nL : Nat} {ls : Array Slot} {rest : List Value} {D : va_G} {ty : List (ClassId × FieldType)} {lo hi : Int32} (hC : CallFix p m c cc nL s args lw_all RX0) (hK : va_K D vwCl ty s) (hR : rm_b_setFrom.frames + 1 ≤ R.frames ∧ 8 + (4 + 11) + rm_b_setFrom.locals ≤ R.locals) (hl : ls.size = nL) (hW : (rest.map fun v => v.category).sum ≤ 8)  (hdg : decode cc pc = .ok (.invokestatic 104, 3)) (k : W p l e R s m args below meth c H locs 0 0 Q (F0 m (pc + 3) ls (.int (sf lo hi) :: rest))) : W p l e R s m args below meth c H locs 0 0 Q (F0 m pc ls (.int hi :: .int lo :: rest)) := kr_S hC (t_b_setFrom l D lo hi ) (va_cwS 2 hC.2.2.2.2 (lw_S q152 q153 q24 q154) rfl rfl rfl (by decide +kernel) hR) rfl hl rfl hW ⟨Nat.zero_le _, Nat.zero_le _⟩ (fun k q h => by simp at h) ⟨hK.1, fun k q h => by simp at h⟩ hdg k
abbrev rm_b_onBoard : Room := { frames := 0, cells := 0, slots := 0, locals := 0 }
set_option maxHeartbeats 4000000 in
set_option maxRecDepth 100000 in
/-- onBoard -/
theorem t_b_onBoard (l : Launch) (D : va_G)  (x y : Int32)  : Met l yX0_onBoard (ws_ yX0_onBoard cX0_onBoard 2 (some .boolean)) rm_b_onBoard (rP D [] [] [.int x, .int y]) (QcRead (bo (onb x y))) 0 0 (fun _ => False) := by
  refine en_rz (by decide) (Nat.le_of_ble_eq_true rfl) ?_
  intro p e s m below meth c ls Q hC hP hK hl hret
  have hC : CallFix p m c cX0_onBoard 2 s _ lw_all RX0 := hC
  have hx := hC.1
  have hb := hC.2.1
  have hl : lv_has ls 2 [(0, .int x), (1, .int y)] := hl
  refine lv_iload_n hx hb dX0_onBoard_0 rfl (lv_at hl 0 rfl) ?_
  refine lv_if_lt (tgt := 24) hx hb dX0_onBoard_1 (by decide) (fun c1 => ?_) (fun c1 => ?_)
  · refine lv_iconst (v := nI 0) hx hb dX0_onBoard_24 (by decide) ?_
    exact hret 25 _ _ dX0_onBoard_25 (by rw [show onb x y = false from by (unfold onb; simp only [Bool.and_eq_false_iff, decide_eq_false_iff_not]; first | exact Or.inl (Or.inl (Or.inl (Int32.not_le.mpr c1))) | exact Or.inl (Or.inl (Or.inr (Int32.not_lt.mpr c1))) | exact Or.inl (Or.inr (Int32.not_le.mpr c1)) | exact Or.inr (Int32.not_lt.mpr c1))]; rfl)
  · refine lv_iload_n hx hb dX0_onBoard_4 rfl (lv_at hl 0 rfl) ?_
    refine lv_bipush (v := nI 6) hx hb dX0_onBoard_5 (by decide) ?_
    refine lv_icmp_ge (tgt := 24) hx hb dX0_onBoard_7 (by decide) (fun c2 => ?_) (fun c2 => ?_)
    · refine lv_iconst (v := nI 0) hx hb dX0_onBoard_24 (by decide) ?_
      exact hret 25 _ _ dX0_onBoard_25 (by rw [show onb x y = false from by (unfold onb; simp only [Bool.and_eq_false_iff, decide_eq_false_iff_not]; first | exact Or.inl (Or.inl (Or.inl (Int32.not_le.mpr c2))) | exact Or.inl (Or.inl (Or.inr (Int32.not_lt.mpr c2))) | exact Or.inl (Or.inr (Int32.not_le.mpr c2)) | exact Or.inr (Int32.not_lt.mpr c2))]; rfl)
    · refine lv_iload_n hx hb dX0_onBoard_10 rfl (lv_at hl 1 rfl) ?_
      refine lv_if_lt (tgt := 24) hx hb dX0_onBoard_11 (by decide) (fun c3 => ?_) (fun c3 => ?_)
      · refine lv_iconst (v := nI 0) hx hb dX0_onBoard_24 (by decide) ?_
        exact hret 25 _ _ dX0_onBoard_25 (by rw [show onb x y = false from by (unfold onb; simp only [Bool.and_eq_false_iff, decide_eq_false_iff_not]; first | exact Or.inl (Or.inl (Or.inl (Int32.not_le.mpr c3))) | exact Or.inl (Or.inl (Or.inr (Int32.not_lt.mpr c3))) | exact Or.inl (Or.inr (Int32.not_le.mpr c3)) | exact Or.inr (Int32.not_lt.mpr c3))]; rfl)
      · refine lv_iload_n hx hb dX0_onBoard_14 rfl (lv_at hl 1 rfl) ?_
        refine lv_bipush (v := nI 6) hx hb dX0_onBoard_15 (by decide) ?_
        refine lv_icmp_ge (tgt := 24) hx hb dX0_onBoard_17 (by decide) (fun c4 => ?_) (fun c4 => ?_)
        · refine lv_iconst (v := nI 0) hx hb dX0_onBoard_24 (by decide) ?_
          exact hret 25 _ _ dX0_onBoard_25 (by rw [show onb x y = false from by (unfold onb; simp only [Bool.and_eq_false_iff, decide_eq_false_iff_not]; first | exact Or.inl (Or.inl (Or.inl (Int32.not_le.mpr c4))) | exact Or.inl (Or.inl (Or.inr (Int32.not_lt.mpr c4))) | exact Or.inl (Or.inr (Int32.not_le.mpr c4)) | exact Or.inr (Int32.not_lt.mpr c4))]; rfl)
        · refine lv_iconst (v := nI 1) hx hb dX0_onBoard_20 (by decide) ?_
          refine lv_goto (tgt := 25) hx hb dX0_onBoard_21 (by decide) ?_
          exact hret 25 _ _ dX0_onBoard_25 (by rw [show onb x y = true from by (unfold onb; simp only [Bool.and_eq_true, decide_eq_true_eq]; exact ⟨⟨⟨Int32.not_lt.mp c1, Int32.not_le.mp c2⟩, Int32.not_lt.mp c3⟩, Int32.not_le.mp c4⟩)]; rfl)
theorem k_b_onBoard {p : Program} {l : Launch} {e : Env} {R : Room} {s : State} {m : MethodId} {args : Array Value} {below : List Frame} {meth : Method} {c : Code} {H : Heap} {locs : List Loc} {Q : State → Prop} {cc : ByteArray} {pc nL : Nat} {ls : Array Slot} {rest : List Value} {D : va_G} {ty : List (ClassId × FieldType)} {x y : Int32} (hC : CallFix p m c cc nL s args lw_all RX0) (hK : va_K D vwCl ty s) (hR : rm_b_onBoard.frames + 1 ≤ R.frames ∧ 8 + (2 + 11) + rm_b_onBoard.locals ≤ R.locals) (hl : ls.size = nL) (hW : (rest.map fun v => v.category).sum ≤ 8)  (hdg : decode cc pc = .ok (.invokestatic 47, 3)) (k : W p l e R s m args below meth c H locs 0 0 Q (F0 m (pc + 3) ls (.int (bo (onb x y)) :: rest))) : W p l e R s m args below meth c H locs 0 0 Q (F0 m pc ls (.int y :: .int x :: rest)) := kr_S hC (t_b_onBoard l D x y ) (va_cwS 2 hC.2.2.2.2 (lw_S q100 q101 q24 q102) rfl rfl rfl (by decide +kernel) hR) rfl hl rfl hW ⟨Nat.zero_le _, Nat.zero_le _⟩ (fun k q h => by simp at h) ⟨hK.1, fun k q h => by simp at h⟩ hdg k
abbrev rm_b_touches : Room := { frames := 0, cells := 0, slots := 0, locals := 0 }
set_option maxHeartbeats 4000000 in
set_option maxRecDepth 100000 in
/-- touches -/
theorem t_b_touches (l : Launch) (D : va_G) (h : Nat) (a : Nat → Nat) (dI dJ : ClassId) (vIs : Int32) (vSo : Int32) (vSc : Int32) (vLe : Int32) (fNu : Nat → Int32) (fCo : Nat → Int32) (fIx : Nat → Int32) (fNe : Nat → Int32) (fDi : Nat → Int32) (fBe : Nat → Int64) (fCr : Nat → Int32) (fCw : Nat → Int32) (fDo : Nat → Int32) (fCh : Nat → Int32) (fNx : Nat → Int32) (G N : Nat) (nr ds du : Nat → Nat) (cr : Nat → Nat → Bool) (g i : Nat) (hI : bbI G N nr ds du cr fNu fCo fNe fDi fCr) (hg : g < G) (hi : i < 2 ^ 31) : Met l yX0_touches (ws_ yX0_touches cX0_touches 3 (some .boolean)) rm_b_touches (rP D (kB dI dJ) (bbW h a dI dJ vIs (nI N) (nI G) vSo vSc vLe fNu fCo fIx fNe fDi fBe fCr fCw fDo fCh fNx) [.ref h, .int (nI g), .int (nI i)]) (QcRead (bo (tc nr ds g i))) 0 0 (fun _ => False) := by
  refine en_rz (by decide) (Nat.le_of_ble_eq_true rfl) ?_
  intro p e s m below meth c ls Q hC hP hK hl hret
  have hC : CallFix p m c cX0_touches 3 s _ lw_all RX0 := hC
  have hx := hC.1
  have hb := hC.2.1
  have hl : lv_has ls 3 [(0, .ref h), (1, .int (nI g)), (2, .int (nI i))] := hl
  refine lv_aload_n hx hb dX0_touches_0 rfl (lv_at hl 0 rfl) ?_
  refine g0_near hC hK hP dX0_touches_1 ?_
  refine lv_iload_n hx hb dX0_touches_4 rfl (lv_at hl 1 rfl) ?_
  refine l0_near hC hK hP (by have := hI.1; omega) dX0_touches_5 ?_
  refine ct_i (y := nI (nr g)) ((hI.2.2.1 g hg).1) ?_
  refine lv_iload_n hx hb dX0_touches_6 rfl (lv_at hl 2 rfl) ?_
  refine nb_eq (tgt := 20) hx hb dX0_touches_7 (by decide) (by have := (hI.2.2.1 g hg).2.2.1; have := hI.2.1; omega) (by omega) (fun c1 => ?_) (fun c1 => ?_)
  · refine lv_iconst (v := nI 1) hx hb dX0_touches_20 (by decide) ?_
    refine lv_goto (tgt := 25) hx hb dX0_touches_21 (by decide) ?_
    exact hret 25 _ _ dX0_touches_25 (by rw [show tc nr ds g i = true by simp [tc, c1]]; rfl)
  · refine lv_aload_n hx hb dX0_touches_10 rfl (lv_at hl 0 rfl) ?_
    refine g0_distant hC hK hP dX0_touches_11 ?_
    refine lv_iload_n hx hb dX0_touches_14 rfl (lv_at hl 1 rfl) ?_
    refine l0_distant hC hK hP (by have := hI.1; omega) dX0_touches_15 ?_
    refine ct_i (y := nI (ds g)) ((hI.2.2.1 g hg).2.1) ?_
    refine lv_iload_n hx hb dX0_touches_16 rfl (lv_at hl 2 rfl) ?_
    refine nb_ne (tgt := 24) hx hb dX0_touches_17 (by decide) (by have := (hI.2.2.1 g hg).2.2.2; have := hI.2.1; omega) (by omega) (fun c2 => ?_) (fun c2 => ?_)
    · refine lv_iconst (v := nI 0) hx hb dX0_touches_24 (by decide) ?_
      exact hret 25 _ _ dX0_touches_25 (by rw [show tc nr ds g i = false by simp [tc, c1, c2]]; rfl)
    · refine lv_iconst (v := nI 1) hx hb dX0_touches_20 (by decide) ?_
      refine lv_goto (tgt := 25) hx hb dX0_touches_21 (by decide) ?_
      exact hret 25 _ _ dX0_touches_25 (by rw [show tc nr ds g i = true by simp [tc, c2]]; rfl)
theorem k_b_touches {p : Program} {l : Launch} {e : Env} {R : Room} {s : State} {m : MethodId} {args : Array Value} {below : List Frame} {meth : Method} {c : Code} {H : Heap} {locs : List Loc} {Q : State → Prop} {cc : ByteArray} {pc nL : Nat} {ls : Array Slot} {rest : List Value} {D : va_G} {h : Nat} {a : Nat → Nat} {dI dJ : ClassId} {vIs : Int32} {vSo : Int32} {vSc : Int32} {vLe : Int32} {fNu : Nat → Int32} {fCo : Nat → Int32} {fIx : Nat → Int32} {fNe : Nat → Int32} {fDi : Nat → Int32} {fBe : Nat → Int64} {fCr : Nat → Int32} {fCw : Nat → Int32} {fDo : Nat → Int32} {fCh : Nat → Int32} {fNx : Nat → Int32} {G N : Nat} {nr ds du : Nat → Nat} {cr : Nat → Nat → Bool} {g i : Nat} (hC : CallFix p m c cc nL s args lw_all RX0) (hK : va_K D vwCl (kB dI dJ) s) (hP : va_P D vwCl (bbW h a dI dJ vIs (nI N) (nI G) vSo vSc vLe fNu fCo fIx fNe fDi fBe fCr fCw fDo fCh fNx) H) (hR : rm_b_touches.frames + 1 ≤ R.frames ∧ 8 + (3 + 11) + rm_b_touches.locals ≤ R.locals) (hl : ls.size = nL) (hW : (rest.map fun v => v.category).sum ≤ 8) (hI : bbI G N nr ds du cr fNu fCo fNe fDi fCr) (hg : g < G) (hi : i < 2 ^ 31) (hdg : decode cc pc = .ok (.invokevirtual 98, 3)) (k : W p l e R s m args below meth c H locs 0 0 Q (F0 m (pc + 3) ls (.int (bo (tc nr ds g i)) :: rest))) : W p l e R s m args below meth c H locs 0 0 Q (F0 m pc ls (.int (nI i) :: .int (nI g) :: .ref h :: rest)) := kr_V hC (t_b_touches l D h a dI dJ vIs vSo vSc vLe fNu fCo fIx fNe fDi fBe fCr fCw fDo fCh fNx G N nr ds du cr g i hI hg hi) (cwV 2 hC.2.2.2.2 (lw_V q139 q141 qs6 q24 q142) rfl rfl rfl (by decide +kernel) hR) rfl rfl rfl hl rfl hW ⟨Nat.zero_le _, Nat.zero_le _⟩ hP hK hdg k
end
section
/-! BridgeBoard's narrowing, as plain functions -/
section
variable (G N : Nat) (nr ds du : Nat → Nat) (cr : Nat → Nat → Bool)
def loS (x : Int32) (i n : Nat) : Nat := sumT (fun g => if tc nr ds g i then lw x g else 0) n
def hiS (x : Int32) (i n : Nat) : Nat := sumT (fun g => if tc nr ds g i then hw x g else 0) n
def iset (x : Int32) (i g : Nat) : Int32 :=
  mk3 (decide (du i + hw x g ≤ 0 + hiS nr ds x i G) && decide (0 + loS nr ds x i G ≤ du i + lw x g))
    (decide (du i + hw x g ≤ 1 + hiS nr ds x i G) && decide (1 + loS nr ds x i G ≤ du i + lw x g))
    (decide (du i + hw x g ≤ 2 + hiS nr ds x i G) && decide (2 + loS nr ds x i G ≤ du i + lw x g))
def ni2 (x : Int32) (i : Nat) : Nat → Nat → Int32 → Int32
  | 0, _, t => t
  | n + 1, g, t => if tc nr ds g i then (if dm (rs t g (iset G nr ds du x i g)) g = 0 then -1 else ni2 x i n (g + 1) (rs t g (iset G nr ds du x i g))) else ni2 x i n (g + 1) t
def ni (x : Int32) (i : Nat) : Int32 := if du i < loS nr ds x i G ∨ hiS nr ds x i G < du i then -1 else ni2 G nr ds du x i G 0 x
def nis : Nat → Nat → Int32 → Int32
  | 0, _, t => t
  | n + 1, i, t => if t < 0 then t else nis n (i + 1) (ni G nr ds du t i)
def nc2 (g : Nat) (k : Int32 → Int32) : Nat → Nat → Int32 → Int32
  | 0, _, t => k t
  | n + 1, h, t => if cr g h then (if dm (rs t h (nI 1)) h = 0 then -1 else nc2 g k n (h + 1) (rs t h (nI 1))) else nc2 g k n (h + 1) t
def nc : Nat → Nat → Int32 → Int32
  | 0, _, t => t
  | n + 1, g, t => if pb t g 0 then nc n (g + 1) t else nc2 cr g (nc n (g + 1)) G 0 t
def enb (g : Nat) : Int32 := (nI 1 <<< (nI (nr g) &&& 31)) ||| (nI 1 <<< (nI (ds g) &&& 31))
def hg1 (x wo : Int32) (g : Nat) (r : Int32) : Int32 := if nI g = wo then r else if (pb x g 1 || pb x g 2) then (if r &&& enb nr ds g = 0 then r else r ||| enb nr ds g) else r
def hgL (x wo : Int32) : Nat → Nat → Int32 → Int32
  | 0, _, r => r
  | n + 1, g, r => hgL x wo n (g + 1) (hg1 nr ds x wo g r)
def hgs (x wo : Int32) : Nat → Int32 → Int32
  | 0, r => r
  | k + 1, r => hgs x wo k (hgL nr ds x wo G 0 r)
def hang (x wo : Int32) : Bool := N == 0 || (hgs G nr ds x wo 7 (nI 1) == (nI 1 <<< (nI N &&& 31)) - nI 1)
def nct2 : Nat → Nat → Int32 → Int32
  | 0, _, t => t
  | n + 1, g, t => if pb t g 0 then (if dm t g = nI 1 then nct2 n (g + 1) t else if hang G N nr ds t (nI g) then nct2 n (g + 1) t else nct2 n (g + 1) (rs t g (nI 6))) else nct2 n (g + 1) t
def nct (x : Int32) : Int32 := if hang G N nr ds x (-1) then nct2 G N nr ds G 0 x else -1
def nw1 (x : Int32) : Int32 :=
  let t1 := nis G nr ds du N 0 x
  let t2 := if 0 ≤ t1 then nc G cr G 0 t1 else t1
  if 0 ≤ t2 then nct G N nr ds t2 else t2
def nw : Nat → Int32 → Int32
  | 0, x => x
  | k + 1, x => if 0 ≤ nw1 G N nr ds du cr x then (if nw1 G N nr ds du cr x = x then nw1 G N nr ds du cr x else nw k (nw1 G N nr ds du cr x)) else -1
def fo (x : Int32) : Nat → Nat → Int32
  | 0, _ => -1
  | n + 1, g => if dm x g &&& (dm x g - nI 1) = 0 then fo x n (g + 1) else nI g
end
theorem sumT_le {f : Nat → Nat} {b : Nat} (h : ∀ g, f g ≤ b) : ∀ n, sumT f n ≤ b * n := by
  intro n
  induction n with
  | zero => exact Nat.le_refl _
  | succ n ih => rw [sumT, Nat.mul_succ]; have := h n; omega
theorem lw_le (x : Int32) (g : Nat) : lw x g ≤ 2 := by unfold lw; split <;> (try split) <;> omega
theorem hw_le (x : Int32) (g : Nat) : hw x g ≤ 2 := by unfold hw; split <;> (try split) <;> omega
theorem loS_le (nr ds : Nat → Nat) (x : Int32) (i n : Nat) : loS nr ds x i n ≤ 2 * n := sumT_le (fun g => by have := lw_le x g; split <;> omega) n
theorem hiS_le (nr ds : Nat → Nat) (x : Int32) (i n : Nat) : hiS nr ds x i n ≤ 2 * n := sumT_le (fun g => by have := hw_le x g; split <;> omega) n
theorem loS_t {nr ds : Nat → Nat} {x : Int32} {i g : Nat} (h : tc nr ds g i = true) : loS nr ds x i (g + 1) = loS nr ds x i g + lw x g := by simp [loS, sumT, h]
theorem loS_f {nr ds : Nat → Nat} {x : Int32} {i g : Nat} (h : tc nr ds g i = false) : loS nr ds x i (g + 1) = loS nr ds x i g := by simp [loS, sumT, h]
theorem hiS_t {nr ds : Nat → Nat} {x : Int32} {i g : Nat} (h : tc nr ds g i = true) : hiS nr ds x i (g + 1) = hiS nr ds x i g + hw x g := by simp [hiS, sumT, h]
theorem hiS_f {nr ds : Nat → Nat} {x : Int32} {i g : Nat} (h : tc nr ds g i = false) : hiS nr ds x i (g + 1) = hiS nr ds x i g := by simp [hiS, sumT, h]
theorem sf_set {d l h a b : Nat} (h1 : l ≤ d) (hd : d < 2 ^ 20) (hh : h < 2 ^ 20) (ha : a < 2 ^ 20) (hb : b < 2 ^ 20) : sf ((nI d - nI h) + nI a) (nI (d - l + b)) = mk3 (decide (d + a ≤ 0 + h) && decide (0 + l ≤ d + b)) (decide (d + a ≤ 1 + h) && decide (1 + l ≤ d + b)) (decide (d + a ≤ 2 + h) && decide (2 + l ≤ d + b)) := by
  have e1 : (nI d - nI h) + nI a = nI (d + a) - nI h := by rw [← nI_add]; grind
  have e2 : (nI (d + a) - nI h).toInt = ((d + a : Nat) : Int) - (h : Int) := pk_sub_toInt (by omega) (by omega)
  have e3 : ∀ k : Nat, k < 3 → decide ((nI d - nI h) + nI a ≤ nI k) = decide (d + a ≤ k + h) := by
    intro k hk
    rw [e1, decide_eq_decide, Int32.le_iff_toInt_le, e2, nI_toInt (by omega)]
    omega
  have e4 : ∀ k : Nat, k < 3 → decide (nI k ≤ nI (d - l + b)) = decide (k + l ≤ d + b) := by
    intro k hk
    rw [decide_eq_decide, nI_leI (by omega) (by omega)]
    omega
  show mk3 (decide ((nI d - nI h) + nI a ≤ nI 0) && decide (nI 0 ≤ nI (d - l + b))) (decide ((nI d - nI h) + nI a ≤ nI 1) && decide (nI 1 ≤ nI (d - l + b))) (decide ((nI d - nI h) + nI a ≤ nI 2) && decide (nI 2 ≤ nI (d - l + b))) = _
  rw [e3 0 (by omega), e3 1 (by omega), e3 2 (by omega), e4 0 (by omega), e4 1 (by omega), e4 2 (by omega)]
theorem cb_bit (x : Int32) {h : Nat} (hh : h < 32) : ((x.toUInt32 >>> ((nI h).toUInt32 &&& Int32.toUInt32 31)).toInt32 &&& nI 1) = bo (bt x h) := by
  refine b_ext (fun i hi => ?_)
  rw [b_and, b_ushr _ hh, show nI 1 = 1 from rfl, b_1]
  by_cases h0 : i = 0
  · subst h0
    cases hq : bt x h <;> simp [bo, hq] <;> decide
  · cases hq : bt x h <;> simp [bo, h0, b_0, b_1]
end
section
/-! BridgeBoard: narrowing -/
abbrev rm_b_narrowIsland : Room := { frames := 1, cells := 0, slots := 0, locals := 23 }
set_option maxHeartbeats 4000000 in
set_option maxRecDepth 100000 in
/-- narrowIsland -/
theorem t_b_narrowIsland (l : Launch) (D : va_G) (h : Nat) (a : Nat → Nat) (dI dJ : ClassId) (vIs : Int32) (vSo : Int32) (vSc : Int32) (vLe : Int32) (fNu : Nat → Int32) (fCo : Nat → Int32) (fIx : Nat → Int32) (fNe : Nat → Int32) (fDi : Nat → Int32) (fBe : Nat → Int64) (fCr : Nat → Int32) (fCw : Nat → Int32) (fDo : Nat → Int32) (fCh : Nat → Int32) (fNx : Nat → Int32) (G N : Nat) (nr ds du : Nat → Nat) (cr : Nat → Nat → Bool) (x : Int32) (i : Nat) (hI : bbI G N nr ds du cr fNu fCo fNe fDi fCr) (hi : i < N) : Met l yX0_narrowIsland (ws_ yX0_narrowIsland cX0_narrowIsland 12 (some .int)) rm_b_narrowIsland (rP D (kB dI dJ) (bbW h a dI dJ vIs (nI N) (nI G) vSo vSc vLe fNu fCo fIx fNe fDi fBe fCr fCw fDo fCh fNx) [.ref h, .int x, .int (nI i)]) (QcRead (ni G nr ds du x i)) 0 0 (fun _ => False) := by
  refine en_ri (by decide) (Nat.le_of_ble_eq_true rfl) ?_
  intro p e s m below meth c ls Q hC hP hK hl hret
  have hC : CallFix p m c cX0_narrowIsland 12 s _ lw_all RX0 := hC
  have hx := hC.1
  have hb := hC.2.1
  have hl : lv_has ls 12 [(0, .ref h), (1, .int x), (2, .int (nI i))] := hl
  have hG : G ≤ 8 := hI.1
  have hN : N ≤ 7 := hI.2.1
  obtain ⟨c0, hc0, ec0, en0, hd8⟩ := hI.2.2.2.1 i hi
  have hlo := loS_le nr ds x i G
  have hhi := hiS_le nr ds x i G
  have lp2 : ∀ (n : Nat) (g : Nat) (t : Int32) (ls : Array Slot), (g ≤ G) → (loS nr ds x i G ≤ du i) → (du i ≤ hiS nr ds x i G) → (ni G nr ds du x i = ni2 G nr ds du x i (G - g) g t) → G < g + n → lv_has ls 12 [(0, .ref h), (1, .int x), (2, .int (nI i)), (3, .int (nI (loS nr ds x i G))), (4, .int (nI (hiS nr ds x i G))), (5, .int (nI (du i))), (6, .int t), (7, .int (nI g))] → W p l e rm_b_narrowIsland s m ([.ref h, .int x, .int (nI i)] : List Value).toArray below meth c s.heap [] 0 0 Q (F0 m 93 ls []) := by
    intro n
    induction n with
    | zero =>
      intro g t ls hg hl1 hl2 he hfu
      exact absurd hfu (by omega)
    | succ n ih =>
      intro g t ls hg hl1 hl2 he hfu hl
      refine lv_iload hx hb dX0_narrowIsland_93 (lv_at hl 7 rfl) ?_
      refine lv_aload_n hx hb dX0_narrowIsland_95 rfl (lv_at hl 0 rfl) ?_
      refine g0_gapCount hC hK hP dX0_narrowIsland_96 ?_
      refine nb_ge (tgt := 183) hx hb dX0_narrowIsland_99 (by decide) (by omega) (by omega) (fun c1 => ?_) (fun c1 => ?_)
      · refine lv_iload hx hb dX0_narrowIsland_183 (lv_at hl 6 rfl) ?_
        exact hret 185 _ _ dX0_narrowIsland_185 (by rw [he, show G - g = 0 by omega, ni2])
      · rw [show G - g = (G - (g + 1)) + 1 by omega, ni2] at he
        refine lv_aload_n hx hb dX0_narrowIsland_102 rfl (lv_at hl 0 rfl) ?_
        refine lv_iload hx hb dX0_narrowIsland_103 (lv_at hl 7 rfl) ?_
        refine lv_iload_n hx hb dX0_narrowIsland_105 rfl (lv_at hl 2 rfl) ?_
        refine k_b_touches  hC hK hP (by decide) hl.1 (Nat.le_of_ble_eq_true rfl) hI (by omega) (by omega) dX0_narrowIsland_106 ?_
        refine bz_eq (tgt := 177) hx hb dX0_narrowIsland_109 (by decide) (fun c2 => ?_) (fun c2 => ?_)
        · rw [c2, if_neg (by decide)] at he
          refine lv_iinc (v := nI (g + 1)) (lv' := [(7, .int (nI (g + 1))), (0, .ref h), (1, .int x), (2, .int (nI i)), (3, .int (nI (loS nr ds x i G))), (4, .int (nI (hiS nr ds x i G))), (5, .int (nI (du i))), (6, .int t)]) hx hb dX0_narrowIsland_177 hl (k := 7) rfl (nI_1 _) (by decide) rfl (fun ls hl => ?_)
          refine lv_goto (tgt := 93) hx hb dX0_narrowIsland_180 (by decide) ?_
          exact ih (g + 1) t _ (by omega) hl1 hl2 he (by omega) (lv_sub hl [1, 2, 3, 4, 5, 6, 7, 0] rfl)
        · rw [c2, if_pos rfl] at he
          refine lv_iload_n hx hb dX0_narrowIsland_112 rfl (lv_at hl 1 rfl) ?_
          refine lv_iload hx hb dX0_narrowIsland_113 (lv_at hl 7 rfl) ?_
          refine k_b_domainOf  hC hK (by decide) hl.1 (Nat.le_of_ble_eq_true rfl) (by omega) dX0_narrowIsland_115 ?_
          refine lv_istore (lv' := [(8, .int (dm x g)), (0, .ref h), (1, .int x), (2, .int (nI i)), (3, .int (nI (loS nr ds x i G))), (4, .int (nI (hiS nr ds x i G))), (5, .int (nI (du i))), (6, .int t), (7, .int (nI g))]) hx hb dX0_narrowIsland_118 hl (by decide) rfl (fun ls hl => ?_)
          refine lv_iload hx hb dX0_narrowIsland_120 (lv_at hl 6 rfl) ?_
          refine lv_iload_n hx hb dX0_narrowIsland_122 rfl (lv_at hl 4 rfl) ?_
          refine nn_sub hx hb (hl1) dX0_narrowIsland_123 ?_
          refine lv_iload hx hb dX0_narrowIsland_124 (lv_at hl 0 rfl) ?_
          refine k_b_lowest (a1 := pb x g 0) (a2 := pb x g 1) (a3 := pb x g 2) hC hK (by decide) hl.1 (Nat.le_of_ble_eq_true rfl) dX0_narrowIsland_126 ?_
          refine ct_i (y := nI (lw x g)) (rfl) ?_
          refine nn_add hx hb dX0_narrowIsland_129 ?_
          refine lv_istore (lv' := [(9, .int (nI (((du i) - (loS nr ds x i G)) + (lw x g)))), (8, .int (dm x g)), (0, .ref h), (1, .int x), (2, .int (nI i)), (3, .int (nI (loS nr ds x i G))), (4, .int (nI (hiS nr ds x i G))), (5, .int (nI (du i))), (6, .int t), (7, .int (nI g))]) hx hb dX0_narrowIsland_130 hl (by decide) rfl (fun ls hl => ?_)
          refine lv_iload hx hb dX0_narrowIsland_132 (lv_at hl 7 rfl) ?_
          refine lv_iload hx hb dX0_narrowIsland_134 (lv_at hl 6 rfl) ?_
          refine lv_isub hx hb dX0_narrowIsland_136 ?_
          refine lv_iload hx hb dX0_narrowIsland_137 (lv_at hl 1 rfl) ?_
          refine k_b_highest (a1 := pb x g 0) (a2 := pb x g 1) (a3 := pb x g 2) hC hK (by decide) hl.1 (Nat.le_of_ble_eq_true rfl) dX0_narrowIsland_139 ?_
          refine ct_i (y := nI (hw x g)) (rfl) ?_
          refine lv_iadd hx hb dX0_narrowIsland_142 ?_
          refine lv_istore (lv' := [(10, .int ((nI (du i) - nI (hiS nr ds x i G)) + nI (hw x g))), (9, .int (nI (((du i) - (loS nr ds x i G)) + (lw x g)))), (8, .int (dm x g)), (0, .ref h), (1, .int x), (2, .int (nI i)), (3, .int (nI (loS nr ds x i G))), (4, .int (nI (hiS nr ds x i G))), (5, .int (nI (du i))), (6, .int t), (7, .int (nI g))]) hx hb dX0_narrowIsland_143 hl (by decide) rfl (fun ls hl => ?_)
          refine lv_iload hx hb dX0_narrowIsland_145 (lv_at hl 0 rfl) ?_
          refine lv_iload hx hb dX0_narrowIsland_147 (lv_at hl 1 rfl) ?_
          refine k_b_setFrom  hC hK (by decide) hl.1 (Nat.le_of_ble_eq_true rfl)  dX0_narrowIsland_149 ?_
          refine ct_i (y := iset G nr ds du x i g) (sf_set hl1 (by omega) (by omega) (by have := hw_le x g; omega) (by have := lw_le x g; omega)) ?_
          refine lv_istore (lv' := [(11, .int (iset G nr ds du x i g)), (10, .int ((nI (du i) - nI (hiS nr ds x i G)) + nI (hw x g))), (9, .int (nI (((du i) - (loS nr ds x i G)) + (lw x g)))), (8, .int (dm x g)), (0, .ref h), (1, .int x), (2, .int (nI i)), (3, .int (nI (loS nr ds x i G))), (4, .int (nI (hiS nr ds x i G))), (5, .int (nI (du i))), (6, .int t), (7, .int (nI g))]) hx hb dX0_narrowIsland_152 hl (by decide) rfl (fun ls hl => ?_)
          refine lv_iload hx hb dX0_narrowIsland_154 (lv_at hl 10 rfl) ?_
          refine lv_iload hx hb dX0_narrowIsland_156 (lv_at hl 11 rfl) ?_
          refine lv_iload hx hb dX0_narrowIsland_158 (lv_at hl 0 rfl) ?_
          refine k_b_restrict  hC hK (by decide) hl.1 (Nat.le_of_ble_eq_true rfl)  dX0_narrowIsland_160 ?_
          refine lv_istore (lv' := [(6, .int (rs t g (iset G nr ds du x i g))), (11, .int (iset G nr ds du x i g)), (10, .int ((nI (du i) - nI (hiS nr ds x i G)) + nI (hw x g))), (9, .int (nI (((du i) - (loS nr ds x i G)) + (lw x g)))), (8, .int (dm x g)), (0, .ref h), (1, .int x), (2, .int (nI i)), (3, .int (nI (loS nr ds x i G))), (4, .int (nI (hiS nr ds x i G))), (5, .int (nI (du i))), (7, .int (nI g))]) hx hb dX0_narrowIsland_163 hl (by decide) rfl (fun ls hl => ?_)
          refine lv_iload hx hb dX0_narrowIsland_165 (lv_at hl 0 rfl) ?_
          refine lv_iload hx hb dX0_narrowIsland_167 (lv_at hl 11 rfl) ?_
          refine k_b_domainOf  hC hK (by decide) hl.1 (Nat.le_of_ble_eq_true rfl) (by omega) dX0_narrowIsland_169 ?_
          refine lv_if_ne (tgt := 177) hx hb dX0_narrowIsland_172 (by decide) (fun c3 => ?_) (fun c3 => ?_)
          · rw [if_neg c3] at he
            refine lv_iinc (v := nI (g + 1)) (lv' := [(7, .int (nI (g + 1))), (6, .int (rs t g (iset G nr ds du x i g))), (11, .int (iset G nr ds du x i g)), (10, .int ((nI (du i) - nI (hiS nr ds x i G)) + nI (hw x g))), (9, .int (nI (((du i) - (loS nr ds x i G)) + (lw x g)))), (8, .int (dm x g)), (0, .ref h), (1, .int x), (2, .int (nI i)), (3, .int (nI (loS nr ds x i G))), (4, .int (nI (hiS nr ds x i G))), (5, .int (nI (du i)))]) hx hb dX0_narrowIsland_177 hl (k := 11) rfl (nI_1 _) (by decide) rfl (fun ls hl => ?_)
            refine lv_goto (tgt := 93) hx hb dX0_narrowIsland_180 (by decide) ?_
            exact ih (g + 1) (rs t g (iset G nr ds du x i g)) _ (by omega) hl1 hl2 he (by omega) (lv_sub hl [6, 7, 8, 9, 10, 11, 1, 0] rfl)
          · rw [if_pos c3] at he
            refine lv_iconst (v := (-1)) hx hb dX0_narrowIsland_175 (by decide) ?_
            exact hret 176 _ _ dX0_narrowIsland_176 (he.symm)
  have lp1 : ∀ (n : Nat) (g : Nat) (ls : Array Slot), (g ≤ G) → G < g + n → lv_has ls 12 [(0, .ref h), (1, .int x), (2, .int (nI i)), (3, .int (nI (loS nr ds x i g))), (4, .int (nI (hiS nr ds x i g))), (5, .int (nI g))] → W p l e rm_b_narrowIsland s m ([.ref h, .int x, .int (nI i)] : List Value).toArray below meth c s.heap [] 0 0 Q (F0 m 8 ls []) := by
    intro n
    induction n with
    | zero =>
      intro g ls hg hfu
      exact absurd hfu (by omega)
    | succ n ih =>
      intro g ls hg hfu hl
      have hlg := loS_le nr ds x i g
      have hhg := hiS_le nr ds x i g
      refine lv_iload hx hb dX0_narrowIsland_8 (lv_at hl 5 rfl) ?_
      refine lv_aload_n hx hb dX0_narrowIsland_10 rfl (lv_at hl 0 rfl) ?_
      refine g0_gapCount hC hK hP dX0_narrowIsland_11 ?_
      refine nb_ge (tgt := 59) hx hb dX0_narrowIsland_14 (by decide) (by omega) (by omega) (fun c4 => ?_) (fun c4 => ?_)
      · obtain rfl : G = g := by omega
        refine lv_aload_n hx hb dX0_narrowIsland_59 rfl (lv_at hl 0 rfl) ?_
        refine g0_number hC hK hP dX0_narrowIsland_60 ?_
        refine lv_aload_n hx hb dX0_narrowIsland_63 rfl (lv_at hl 0 rfl) ?_
        refine g0_cellOf hC hK hP dX0_narrowIsland_64 ?_
        refine lv_iload_n hx hb dX0_narrowIsland_67 rfl (lv_at hl 2 rfl) ?_
        refine l0_cellOf hC hK hP (by omega) dX0_narrowIsland_68 ?_
        refine ct_i (y := nI c0) (ec0) ?_
        refine l0_number hC hK hP (by omega) dX0_narrowIsland_69 ?_
        refine ct_i (y := nI (du i)) (en0) ?_
        refine lv_istore (lv' := [(5, .int (nI (du i))), (0, .ref h), (1, .int x), (2, .int (nI i)), (3, .int (nI (loS nr ds x i G))), (4, .int (nI (hiS nr ds x i G)))]) hx hb dX0_narrowIsland_70 hl (by decide) rfl (fun ls hl => ?_)
        refine lv_iload hx hb dX0_narrowIsland_72 (lv_at hl 0 rfl) ?_
        refine lv_iload_n hx hb dX0_narrowIsland_74 rfl (lv_at hl 4 rfl) ?_
        refine nb_lt (tgt := 85) hx hb dX0_narrowIsland_75 (by decide) (by omega) (by omega) (fun c5 => ?_) (fun c5 => ?_)
        · refine lv_iconst (v := (-1)) hx hb dX0_narrowIsland_85 (by decide) ?_
          exact hret 86 _ _ dX0_narrowIsland_86 ((if_pos (Or.inl c5)).symm)
        · refine lv_iload hx hb dX0_narrowIsland_78 (lv_at hl 0 rfl) ?_
          refine lv_iload hx hb dX0_narrowIsland_80 (lv_at hl 5 rfl) ?_
          refine nb_le (tgt := 87) hx hb dX0_narrowIsland_82 (by decide) (by omega) (by omega) (fun c6 => ?_) (fun c6 => ?_)
          · refine lv_iload_n hx hb dX0_narrowIsland_87 rfl (lv_at hl 2 rfl) ?_
            refine lv_istore (lv' := [(6, .int x), (5, .int (nI (du i))), (0, .ref h), (1, .int x), (2, .int (nI i)), (3, .int (nI (loS nr ds x i G))), (4, .int (nI (hiS nr ds x i G)))]) hx hb dX0_narrowIsland_88 hl (by decide) rfl (fun ls hl => ?_)
            refine lv_iconst (v := nI 0) hx hb dX0_narrowIsland_90 (by decide) ?_
            refine lv_istore (lv' := [(7, .int (nI 0)), (6, .int x), (5, .int (nI (du i))), (0, .ref h), (1, .int x), (2, .int (nI i)), (3, .int (nI (loS nr ds x i G))), (4, .int (nI (hiS nr ds x i G)))]) hx hb dX0_narrowIsland_91 hl (by decide) rfl (fun ls hl => ?_)
            exact lp2 (G + 1) 0 x _ (by omega) c5 c6 (if_neg (by omega)) (by omega) (lv_sub hl [3, 4, 5, 6, 7, 2, 1, 0] rfl)
          · refine lv_iconst (v := (-1)) hx hb dX0_narrowIsland_85 (by decide) ?_
            exact hret 86 _ _ dX0_narrowIsland_86 ((if_pos (Or.inr c6)).symm)
      · refine lv_aload_n hx hb dX0_narrowIsland_17 rfl (lv_at hl 0 rfl) ?_
        refine lv_iload hx hb dX0_narrowIsland_18 (lv_at hl 5 rfl) ?_
        refine lv_iload_n hx hb dX0_narrowIsland_20 rfl (lv_at hl 2 rfl) ?_
        refine k_b_touches  hC hK hP (by decide) hl.1 (Nat.le_of_ble_eq_true rfl) hI (by omega) (by omega) dX0_narrowIsland_21 ?_
        refine bz_eq (tgt := 53) hx hb dX0_narrowIsland_24 (by decide) (fun c7 => ?_) (fun c7 => ?_)
        · refine lv_iinc (v := nI (g + 1)) (lv' := [(5, .int (nI (g + 1))), (0, .ref h), (1, .int x), (2, .int (nI i)), (3, .int (nI (loS nr ds x i g))), (4, .int (nI (hiS nr ds x i g)))]) hx hb dX0_narrowIsland_53 hl (k := 5) rfl (nI_1 _) (by decide) rfl (fun ls hl => ?_)
          refine lv_goto (tgt := 8) hx hb dX0_narrowIsland_56 (by decide) ?_
          exact ih (g + 1) _ (by omega) (by omega) (by rw [loS_f c7, hiS_f c7]; exact (lv_sub hl [1, 2, 3, 4, 5, 0] rfl))
        · refine lv_iload_n hx hb dX0_narrowIsland_27 rfl (lv_at hl 1 rfl) ?_
          refine lv_iload hx hb dX0_narrowIsland_28 (lv_at hl 5 rfl) ?_
          refine k_b_domainOf  hC hK (by decide) hl.1 (Nat.le_of_ble_eq_true rfl) (by omega) dX0_narrowIsland_30 ?_
          refine lv_istore (lv' := [(6, .int (dm x g)), (0, .ref h), (1, .int x), (2, .int (nI i)), (3, .int (nI (loS nr ds x i g))), (4, .int (nI (hiS nr ds x i g))), (5, .int (nI g))]) hx hb dX0_narrowIsland_33 hl (by decide) rfl (fun ls hl => ?_)
          refine lv_iload_n hx hb dX0_narrowIsland_35 rfl (lv_at hl 4 rfl) ?_
          refine lv_iload hx hb dX0_narrowIsland_36 (lv_at hl 0 rfl) ?_
          refine k_b_lowest (a1 := pb x g 0) (a2 := pb x g 1) (a3 := pb x g 2) hC hK (by decide) hl.1 (Nat.le_of_ble_eq_true rfl) dX0_narrowIsland_38 ?_
          refine ct_i (y := nI (lw x g)) (rfl) ?_
          refine nn_add hx hb dX0_narrowIsland_41 ?_
          refine lv_istore_n (lv' := [(3, .int (nI ((loS nr ds x i g) + (lw x g)))), (6, .int (dm x g)), (0, .ref h), (1, .int x), (2, .int (nI i)), (4, .int (nI (hiS nr ds x i g))), (5, .int (nI g))]) hx hb dX0_narrowIsland_42 rfl hl (by decide) rfl (fun ls hl => ?_)
          refine lv_iload hx hb dX0_narrowIsland_43 (lv_at hl 5 rfl) ?_
          refine lv_iload hx hb dX0_narrowIsland_45 (lv_at hl 1 rfl) ?_
          refine k_b_highest (a1 := pb x g 0) (a2 := pb x g 1) (a3 := pb x g 2) hC hK (by decide) hl.1 (Nat.le_of_ble_eq_true rfl) dX0_narrowIsland_47 ?_
          refine ct_i (y := nI (hw x g)) (rfl) ?_
          refine nn_add hx hb dX0_narrowIsland_50 ?_
          refine lv_istore (lv' := [(4, .int (nI ((hiS nr ds x i g) + (hw x g)))), (3, .int (nI ((loS nr ds x i g) + (lw x g)))), (6, .int (dm x g)), (0, .ref h), (1, .int x), (2, .int (nI i)), (5, .int (nI g))]) hx hb dX0_narrowIsland_51 hl (by decide) rfl (fun ls hl => ?_)
          refine lv_iinc (v := nI (g + 1)) (lv' := [(5, .int (nI (g + 1))), (4, .int (nI ((hiS nr ds x i g) + (hw x g)))), (3, .int (nI ((loS nr ds x i g) + (lw x g)))), (6, .int (dm x g)), (0, .ref h), (1, .int x), (2, .int (nI i))]) hx hb dX0_narrowIsland_53 hl (k := 6) rfl (nI_1 _) (by decide) rfl (fun ls hl => ?_)
          refine lv_goto (tgt := 8) hx hb dX0_narrowIsland_56 (by decide) ?_
          exact ih (g + 1) _ (by omega) (by omega) (by rw [loS_t c7, hiS_t c7]; exact (lv_sub hl [4, 5, 6, 2, 1, 0] rfl))
  refine lv_iconst (v := nI 0) hx hb dX0_narrowIsland_0 (by decide) ?_
  refine lv_istore_n (lv' := [(3, .int (nI 0)), (0, .ref h), (1, .int x), (2, .int (nI i))]) hx hb dX0_narrowIsland_1 rfl hl (by decide) rfl (fun ls hl => ?_)
  refine lv_iconst (v := nI 0) hx hb dX0_narrowIsland_2 (by decide) ?_
  refine lv_istore (lv' := [(4, .int (nI 0)), (3, .int (nI 0)), (0, .ref h), (1, .int x), (2, .int (nI i))]) hx hb dX0_narrowIsland_3 hl (by decide) rfl (fun ls hl => ?_)
  refine lv_iconst (v := nI 0) hx hb dX0_narrowIsland_5 (by decide) ?_
  refine lv_istore (lv' := [(5, .int (nI 0)), (4, .int (nI 0)), (3, .int (nI 0)), (0, .ref h), (1, .int x), (2, .int (nI i))]) hx hb dX0_narrowIsland_6 hl (by decide) rfl (fun ls hl => ?_)
  exact lp1 (G + 1) 0 _ (by omega) (by omega) (lv_sub hl [3, 4, 5, 2, 1, 0] rfl)
theorem k_b_narrowIsland {p : Program} {l : Launch} {e : Env} {R : Room} {s : State} {m : MethodId} {args : Array Value} {below : List Frame} {meth : Method} {c : Code} {H : Heap} {locs : List Loc} {Q : State → Prop} {cc : ByteArray} {pc nL : Nat} {ls : Array Slot} {rest : List Value} {D : va_G} {h : Nat} {a : Nat → Nat} {dI dJ : ClassId} {vIs : Int32} {vSo : Int32} {vSc : Int32} {vLe : Int32} {fNu : Nat → Int32} {fCo : Nat → Int32} {fIx : Nat → Int32} {fNe : Nat → Int32} {fDi : Nat → Int32} {fBe : Nat → Int64} {fCr : Nat → Int32} {fCw : Nat → Int32} {fDo : Nat → Int32} {fCh : Nat → Int32} {fNx : Nat → Int32} {G N : Nat} {nr ds du : Nat → Nat} {cr : Nat → Nat → Bool} {x : Int32} {i : Nat} (hC : CallFix p m c cc nL s args lw_all RX0) (hK : va_K D vwCl (kB dI dJ) s) (hP : va_P D vwCl (bbW h a dI dJ vIs (nI N) (nI G) vSo vSc vLe fNu fCo fIx fNe fDi fBe fCr fCw fDo fCh fNx) H) (hR : rm_b_narrowIsland.frames + 1 ≤ R.frames ∧ 8 + (12 + 11) + rm_b_narrowIsland.locals ≤ R.locals) (hl : ls.size = nL) (hW : (rest.map fun v => v.category).sum ≤ 8) (hI : bbI G N nr ds du cr fNu fCo fNe fDi fCr) (hi : i < N) (hdg : decode cc pc = .ok (.invokevirtual 95, 3)) (k : W p l e R s m args below meth c H locs 0 0 Q (F0 m (pc + 3) ls (.int (ni G nr ds du x i) :: rest))) : W p l e R s m args below meth c H locs 0 0 Q (F0 m pc ls (.int (nI i) :: .int x :: .ref h :: rest)) := kr_V hC (t_b_narrowIsland l D h a dI dJ vIs vSo vSc vLe fNu fCo fIx fNe fDi fBe fCr fCw fDo fCh fNx G N nr ds du cr x i hI hi) (cwV 2 hC.2.2.2.2 (lw_V q135 q137 qs5 q24 q138) rfl rfl rfl (by decide +kernel) hR) rfl rfl rfl hl rfl hW ⟨Nat.zero_le _, Nat.zero_le _⟩ hP hK hdg k
abbrev rm_b_narrowIslands : Room := { frames := 2, cells := 0, slots := 0, locals := 54 }
set_option maxHeartbeats 4000000 in
set_option maxRecDepth 100000 in
/-- narrowIslands -/
theorem t_b_narrowIslands (l : Launch) (D : va_G) (h : Nat) (a : Nat → Nat) (dI dJ : ClassId) (vIs : Int32) (vSo : Int32) (vSc : Int32) (vLe : Int32) (fNu : Nat → Int32) (fCo : Nat → Int32) (fIx : Nat → Int32) (fNe : Nat → Int32) (fDi : Nat → Int32) (fBe : Nat → Int64) (fCr : Nat → Int32) (fCw : Nat → Int32) (fDo : Nat → Int32) (fCh : Nat → Int32) (fNx : Nat → Int32) (G N : Nat) (nr ds du : Nat → Nat) (cr : Nat → Nat → Bool) (x : Int32) (hI : bbI G N nr ds du cr fNu fCo fNe fDi fCr) : Met l yX0_narrowIslands (ws_ yX0_narrowIslands cX0_narrowIslands 4 (some .int)) rm_b_narrowIslands (rP D (kB dI dJ) (bbW h a dI dJ vIs (nI N) (nI G) vSo vSc vLe fNu fCo fIx fNe fDi fBe fCr fCw fDo fCh fNx) [.ref h, .int x]) (QcRead (nis G nr ds du N 0 x)) 0 0 (fun _ => False) := by
  refine en_ri (by decide) (Nat.le_of_ble_eq_true rfl) ?_
  intro p e s m below meth c ls Q hC hP hK hl hret
  have hC : CallFix p m c cX0_narrowIslands 4 s _ lw_all RX0 := hC
  have hx := hC.1
  have hb := hC.2.1
  have hl : lv_has ls 4 [(0, .ref h), (1, .int x)] := hl
  have hG : G ≤ 8 := hI.1
  have hN : N ≤ 7 := hI.2.1
  have lp : ∀ (n : Nat) (i : Nat) (t : Int32) (ls : Array Slot), (i ≤ N) → (nis G nr ds du N 0 x = nis G nr ds du (N - i) i t) → N < i + n → lv_has ls 4 [(0, .ref h), (1, .int x), (2, .int t), (3, .int (nI i))] → W p l e rm_b_narrowIslands s m ([.ref h, .int x] : List Value).toArray below meth c s.heap [] 0 0 Q (F0 m 4 ls []) := by
    intro n
    induction n with
    | zero =>
      intro i t ls hi he hfu
      exact absurd hfu (by omega)
    | succ n ih =>
      intro i t ls hi he hfu hl
      refine lv_iload_n hx hb dX0_narrowIslands_4 rfl (lv_at hl 3 rfl) ?_
      refine lv_aload_n hx hb dX0_narrowIslands_5 rfl (lv_at hl 0 rfl) ?_
      refine g0_listed hC hK hP dX0_narrowIslands_6 ?_
      refine nb_ge (tgt := 29) hx hb dX0_narrowIslands_9 (by decide) (by omega) (by omega) (fun c1 => ?_) (fun c1 => ?_)
      · refine lv_iload_n hx hb dX0_narrowIslands_29 rfl (lv_at hl 2 rfl) ?_
        exact hret 30 _ _ dX0_narrowIslands_30 (by rw [he, show N - i = 0 by omega, nis])
      · rw [show N - i = (N - (i + 1)) + 1 by omega, nis] at he
        refine lv_iload_n hx hb dX0_narrowIslands_12 rfl (lv_at hl 2 rfl) ?_
        refine lv_if_lt (tgt := 29) hx hb dX0_narrowIslands_13 (by decide) (fun c2 => ?_) (fun c2 => ?_)
        · rw [if_pos c2] at he
          refine lv_iload_n hx hb dX0_narrowIslands_29 rfl (lv_at hl 2 rfl) ?_
          exact hret 30 _ _ dX0_narrowIslands_30 (he.symm)
        · rw [if_neg c2] at he
          refine lv_aload_n hx hb dX0_narrowIslands_16 rfl (lv_at hl 0 rfl) ?_
          refine lv_iload_n hx hb dX0_narrowIslands_17 rfl (lv_at hl 2 rfl) ?_
          refine lv_iload_n hx hb dX0_narrowIslands_18 rfl (lv_at hl 3 rfl) ?_
          refine k_b_narrowIsland  hC hK hP (by decide) hl.1 (Nat.le_of_ble_eq_true rfl) hI (by omega) dX0_narrowIslands_19 ?_
          refine lv_istore_n (lv' := [(2, .int (ni G nr ds du t i)), (0, .ref h), (1, .int x), (3, .int (nI i))]) hx hb dX0_narrowIslands_22 rfl hl (by decide) rfl (fun ls hl => ?_)
          refine lv_iinc (v := nI (i + 1)) (lv' := [(3, .int (nI (i + 1))), (2, .int (ni G nr ds du t i)), (0, .ref h), (1, .int x)]) hx hb dX0_narrowIslands_23 hl (k := 3) rfl (nI_1 _) (by decide) rfl (fun ls hl => ?_)
          refine lv_goto (tgt := 4) hx hb dX0_narrowIslands_26 (by decide) ?_
          exact ih (i + 1) (ni G nr ds du t i) _ (by omega) he (by omega) (lv_sub hl [2, 3, 1, 0] rfl)
  refine lv_iload_n hx hb dX0_narrowIslands_0 rfl (lv_at hl 1 rfl) ?_
  refine lv_istore_n (lv' := [(2, .int x), (0, .ref h), (1, .int x)]) hx hb dX0_narrowIslands_1 rfl hl (by decide) rfl (fun ls hl => ?_)
  refine lv_iconst (v := nI 0) hx hb dX0_narrowIslands_2 (by decide) ?_
  refine lv_istore_n (lv' := [(3, .int (nI 0)), (2, .int x), (0, .ref h), (1, .int x)]) hx hb dX0_narrowIslands_3 rfl hl (by decide) rfl (fun ls hl => ?_)
  exact lp (N + 1) 0 x _ (by omega) rfl (by omega) (lv_sub hl [2, 3, 1, 0] rfl)
theorem k_b_narrowIslands {p : Program} {l : Launch} {e : Env} {R : Room} {s : State} {m : MethodId} {args : Array Value} {below : List Frame} {meth : Method} {c : Code} {H : Heap} {locs : List Loc} {Q : State → Prop} {cc : ByteArray} {pc nL : Nat} {ls : Array Slot} {rest : List Value} {D : va_G} {h : Nat} {a : Nat → Nat} {dI dJ : ClassId} {vIs : Int32} {vSo : Int32} {vSc : Int32} {vLe : Int32} {fNu : Nat → Int32} {fCo : Nat → Int32} {fIx : Nat → Int32} {fNe : Nat → Int32} {fDi : Nat → Int32} {fBe : Nat → Int64} {fCr : Nat → Int32} {fCw : Nat → Int32} {fDo : Nat → Int32} {fCh : Nat → Int32} {fNx : Nat → Int32} {G N : Nat} {nr ds du : Nat → Nat} {cr : Nat → Nat → Bool} {x : Int32} (hC : CallFix p m c cc nL s args lw_all RX0) (hK : va_K D vwCl (kB dI dJ) s) (hP : va_P D vwCl (bbW h a dI dJ vIs (nI N) (nI G) vSo vSc vLe fNu fCo fIx fNe fDi fBe fCr fCw fDo fCh fNx) H) (hR : rm_b_narrowIslands.frames + 1 ≤ R.frames ∧ 8 + (4 + 11) + rm_b_narrowIslands.locals ≤ R.locals) (hl : ls.size = nL) (hW : (rest.map fun v => v.category).sum ≤ 8) (hI : bbI G N nr ds du cr fNu fCo fNe fDi fCr) (hdg : decode cc pc = .ok (.invokevirtual 86, 3)) (k : W p l e R s m args below meth c H locs 0 0 Q (F0 m (pc + 3) ls (.int (nis G nr ds du N 0 x) :: rest))) : W p l e R s m args below meth c H locs 0 0 Q (F0 m pc ls (.int x :: .ref h :: rest)) := kr_V hC (t_b_narrowIslands l D h a dI dJ vIs vSo vSc vLe fNu fCo fIx fNe fDi fBe fCr fCw fDo fCh fNx G N nr ds du cr x hI) (cwV 1 hC.2.2.2.2 (lw_V q131 q133 qs4 q24 q134) rfl rfl rfl (by decide +kernel) hR) rfl rfl rfl hl rfl hW ⟨Nat.zero_le _, Nat.zero_le _⟩ hP hK hdg k
abbrev rm_b_narrowCrossings : Room := { frames := 1, cells := 0, slots := 0, locals := 22 }
set_option maxHeartbeats 4000000 in
set_option maxRecDepth 100000 in
/-- narrowCrossings -/
theorem t_b_narrowCrossings (l : Launch) (D : va_G) (h : Nat) (a : Nat → Nat) (dI dJ : ClassId) (vIs : Int32) (vSo : Int32) (vSc : Int32) (vLe : Int32) (fNu : Nat → Int32) (fCo : Nat → Int32) (fIx : Nat → Int32) (fNe : Nat → Int32) (fDi : Nat → Int32) (fBe : Nat → Int64) (fCr : Nat → Int32) (fCw : Nat → Int32) (fDo : Nat → Int32) (fCh : Nat → Int32) (fNx : Nat → Int32) (G N : Nat) (nr ds du : Nat → Nat) (cr : Nat → Nat → Bool) (x : Int32) (hI : bbI G N nr ds du cr fNu fCo fNe fDi fCr) : Met l yX0_narrowCrossings (ws_ yX0_narrowCrossings cX0_narrowCrossings 5 (some .int)) rm_b_narrowCrossings (rP D (kB dI dJ) (bbW h a dI dJ vIs (nI N) (nI G) vSo vSc vLe fNu fCo fIx fNe fDi fBe fCr fCw fDo fCh fNx) [.ref h, .int x]) (QcRead (nc G cr G 0 x)) 0 0 (fun _ => False) := by
  refine en_ri (by decide) (Nat.le_of_ble_eq_true rfl) ?_
  intro p e s m below meth c ls Q hC hP hK hl hret
  have hC : CallFix p m c cX0_narrowCrossings 5 s _ lw_all RX0 := hC
  have hx := hC.1
  have hb := hC.2.1
  have hl : lv_has ls 5 [(0, .ref h), (1, .int x)] := hl
  have hG : G ≤ 8 := hI.1
  have hN : N ≤ 7 := hI.2.1
  have lp : ∀ (n : Nat) (g : Nat) (t : Int32) (ls : Array Slot), (g ≤ G) → (nc G cr G 0 x = nc G cr (G - g) g t) → G < g + n → lv_has ls 5 [(0, .ref h), (1, .int x), (2, .int t), (3, .int (nI g))] → W p l e rm_b_narrowCrossings s m ([.ref h, .int x] : List Value).toArray below meth c s.heap [] 0 0 Q (F0 m 4 ls []) := by
    intro n
    induction n with
    | zero =>
      intro g t ls hg he hfu
      exact absurd hfu (by omega)
    | succ n ih =>
      intro g t ls hg he hfu hl
      refine lv_iload_n hx hb dX0_narrowCrossings_4 rfl (lv_at hl 3 rfl) ?_
      refine lv_aload_n hx hb dX0_narrowCrossings_5 rfl (lv_at hl 0 rfl) ?_
      refine g0_gapCount hC hK hP dX0_narrowCrossings_6 ?_
      refine nb_ge (tgt := 79) hx hb dX0_narrowCrossings_9 (by decide) (by omega) (by omega) (fun c1 => ?_) (fun c1 => ?_)
      · refine lv_iload_n hx hb dX0_narrowCrossings_79 rfl (lv_at hl 2 rfl) ?_
        exact hret 80 _ _ dX0_narrowCrossings_80 (by rw [he, show G - g = 0 by omega, nc])
      · rw [show G - g = (G - (g + 1)) + 1 by omega, nc] at he
        refine lv_iload_n hx hb dX0_narrowCrossings_12 rfl (lv_at hl 2 rfl) ?_
        refine lv_iload_n hx hb dX0_narrowCrossings_13 rfl (lv_at hl 3 rfl) ?_
        refine k_b_domainOf  hC hK (by decide) hl.1 (Nat.le_of_ble_eq_true rfl) (by omega) dX0_narrowCrossings_14 ?_
        refine lv_iconst (v := nI 1) hx hb dX0_narrowCrossings_17 (by decide) ?_
        refine lv_iand hx hb dX0_narrowCrossings_18 ?_
        refine ct_i (y := bo (pb t g 0)) (mk3_a1 _ _ _) ?_
        refine bz_ne (tgt := 73) hx hb dX0_narrowCrossings_19 (by decide) (fun c2 => ?_) (fun c2 => ?_)
        · rw [c2, if_pos rfl] at he
          refine lv_iinc (v := nI (g + 1)) (lv' := [(3, .int (nI (g + 1))), (0, .ref h), (1, .int x), (2, .int t)]) hx hb dX0_narrowCrossings_73 hl (k := 3) rfl (nI_1 _) (by decide) rfl (fun ls hl => ?_)
          refine lv_goto (tgt := 4) hx hb dX0_narrowCrossings_76 (by decide) ?_
          exact ih (g + 1) t _ (by omega) he (by omega) (lv_sub hl [1, 2, 3, 0] rfl)
        · rw [c2, if_neg (by decide)] at he
          have ih1 := ih
          have lp2 : ∀ (n : Nat) (k : Nat) (u : Int32) (ls : Array Slot), (k ≤ G) → (nc G cr G 0 x = nc2 cr g (nc G cr (G - (g + 1)) (g + 1)) (G - k) k u) → G < k + n → lv_has ls 5 [(0, .ref h), (1, .int x), (2, .int u), (3, .int (nI g)), (4, .int (nI k))] → W p l e rm_b_narrowCrossings s m ([.ref h, .int x] : List Value).toArray below meth c s.heap [] 0 0 Q (F0 m 25 ls []) := by
            intro n
            induction n with
            | zero =>
              intro k u ls hk hf hfu
              exact absurd hfu (by omega)
            | succ n ih =>
              intro k u ls hk hf hfu hl
              refine lv_iload hx hb dX0_narrowCrossings_25 (lv_at hl 4 rfl) ?_
              refine lv_aload_n hx hb dX0_narrowCrossings_27 rfl (lv_at hl 0 rfl) ?_
              refine g0_gapCount hC hK hP dX0_narrowCrossings_28 ?_
              refine nb_ge (tgt := 73) hx hb dX0_narrowCrossings_31 (by decide) (by omega) (by omega) (fun c3 => ?_) (fun c3 => ?_)
              · rw [show G - k = 0 by omega, nc2] at hf
                refine lv_iinc (v := nI (g + 1)) (lv' := [(3, .int (nI (g + 1))), (0, .ref h), (1, .int x), (2, .int u), (4, .int (nI k))]) hx hb dX0_narrowCrossings_73 hl (k := 3) rfl (nI_1 _) (by decide) rfl (fun ls hl => ?_)
                refine lv_goto (tgt := 4) hx hb dX0_narrowCrossings_76 (by decide) ?_
                exact ih1 (g + 1) u _ (by omega) hf (by omega) (lv_sub hl [1, 2, 3, 0] rfl)
              · rw [show G - k = (G - (k + 1)) + 1 by omega, nc2] at hf
                refine lv_aload_n hx hb dX0_narrowCrossings_34 rfl (lv_at hl 0 rfl) ?_
                refine g0_crossing hC hK hP dX0_narrowCrossings_35 ?_
                refine lv_iload_n hx hb dX0_narrowCrossings_38 rfl (lv_at hl 3 rfl) ?_
                refine l0_crossing hC hK hP (by omega) dX0_narrowCrossings_39 ?_
                refine lv_iload hx hb dX0_narrowCrossings_40 (lv_at hl 4 rfl) ?_
                refine lv_iushr (v := (((fCr g)).toUInt32 >>> ((nI k).toUInt32 &&& Int32.toUInt32 31)).toInt32) hx hb dX0_narrowCrossings_42 rfl ?_
                refine lv_iconst (v := nI 1) hx hb dX0_narrowCrossings_43 (by decide) ?_
                refine lv_iand hx hb dX0_narrowCrossings_44 ?_
                refine ct_i (y := bo (cr g k)) ((cb_bit _ (by omega)).trans (congrArg bo (hI.2.2.2.2 g k c1 c3))) ?_
                refine bz_eq (tgt := 67) hx hb dX0_narrowCrossings_45 (by decide) (fun c4 => ?_) (fun c4 => ?_)
                · rw [c4, if_neg (by decide)] at hf
                  refine lv_iinc (v := nI (k + 1)) (lv' := [(4, .int (nI (k + 1))), (0, .ref h), (1, .int x), (2, .int u), (3, .int (nI g))]) hx hb dX0_narrowCrossings_67 hl (k := 4) rfl (nI_1 _) (by decide) rfl (fun ls hl => ?_)
                  refine lv_goto (tgt := 25) hx hb dX0_narrowCrossings_70 (by decide) ?_
                  exact ih (k + 1) u _ (by omega) hf (by omega) (lv_sub hl [1, 2, 3, 4, 0] rfl)
                · rw [c4, if_pos rfl] at hf
                  refine lv_iload_n hx hb dX0_narrowCrossings_48 rfl (lv_at hl 2 rfl) ?_
                  refine lv_iload hx hb dX0_narrowCrossings_49 (lv_at hl 4 rfl) ?_
                  refine lv_iconst (v := nI 1) hx hb dX0_narrowCrossings_51 (by decide) ?_
                  refine k_b_restrict  hC hK (by decide) hl.1 (Nat.le_of_ble_eq_true rfl)  dX0_narrowCrossings_52 ?_
                  refine lv_istore_n (lv' := [(2, .int (rs u k (nI 1))), (0, .ref h), (1, .int x), (3, .int (nI g)), (4, .int (nI k))]) hx hb dX0_narrowCrossings_55 rfl hl (by decide) rfl (fun ls hl => ?_)
                  refine lv_iload_n hx hb dX0_narrowCrossings_56 rfl (lv_at hl 0 rfl) ?_
                  refine lv_iload hx hb dX0_narrowCrossings_57 (lv_at hl 4 rfl) ?_
                  refine k_b_domainOf  hC hK (by decide) hl.1 (Nat.le_of_ble_eq_true rfl) (by omega) dX0_narrowCrossings_59 ?_
                  refine lv_if_ne (tgt := 67) hx hb dX0_narrowCrossings_62 (by decide) (fun c5 => ?_) (fun c5 => ?_)
                  · rw [if_neg c5] at hf
                    refine lv_iinc (v := nI (k + 1)) (lv' := [(4, .int (nI (k + 1))), (2, .int (rs u k (nI 1))), (0, .ref h), (1, .int x), (3, .int (nI g))]) hx hb dX0_narrowCrossings_67 hl (k := 4) rfl (nI_1 _) (by decide) rfl (fun ls hl => ?_)
                    refine lv_goto (tgt := 25) hx hb dX0_narrowCrossings_70 (by decide) ?_
                    exact ih (k + 1) (rs u k (nI 1)) _ (by omega) hf (by omega) (lv_sub hl [2, 3, 1, 4, 0] rfl)
                  · rw [if_pos c5] at hf
                    refine lv_iconst (v := (-1)) hx hb dX0_narrowCrossings_65 (by decide) ?_
                    exact hret 66 _ _ dX0_narrowCrossings_66 (hf.symm)
          refine lv_iconst (v := nI 0) hx hb dX0_narrowCrossings_22 (by decide) ?_
          refine lv_istore (lv' := [(4, .int (nI 0)), (0, .ref h), (1, .int x), (2, .int t), (3, .int (nI g))]) hx hb dX0_narrowCrossings_23 hl (by decide) rfl (fun ls hl => ?_)
          exact lp2 (G + 1) 0 t _ (by omega) he (by omega) (lv_sub hl [1, 2, 3, 4, 0] rfl)
  refine lv_iload_n hx hb dX0_narrowCrossings_0 rfl (lv_at hl 1 rfl) ?_
  refine lv_istore_n (lv' := [(2, .int x), (0, .ref h), (1, .int x)]) hx hb dX0_narrowCrossings_1 rfl hl (by decide) rfl (fun ls hl => ?_)
  refine lv_iconst (v := nI 0) hx hb dX0_narrowCrossings_2 (by decide) ?_
  refine lv_istore_n (lv' := [(3, .int (nI 0)), (2, .int x), (0, .ref h), (1, .int x)]) hx hb dX0_narrowCrossings_3 rfl hl (by decide) rfl (fun ls hl => ?_)
  exact lp (G + 1) 0 x _ (by omega) rfl (by omega) (lv_sub hl [2, 3, 1, 0] rfl)
theorem k_b_narrowCrossings {p : Program} {l : Launch} {e : Env} {R : Room} {s : State} {m : MethodId} {args : Array Value} {below : List Frame} {meth : Method} {c : Code} {H : Heap} {locs : List Loc} {Q : State → Prop} {cc : ByteArray} {pc nL : Nat} {ls : Array Slot} {rest : List Value} {D : va_G} {h : Nat} {a : Nat → Nat} {dI dJ : ClassId} {vIs : Int32} {vSo : Int32} {vSc : Int32} {vLe : Int32} {fNu : Nat → Int32} {fCo : Nat → Int32} {fIx : Nat → Int32} {fNe : Nat → Int32} {fDi : Nat → Int32} {fBe : Nat → Int64} {fCr : Nat → Int32} {fCw : Nat → Int32} {fDo : Nat → Int32} {fCh : Nat → Int32} {fNx : Nat → Int32} {G N : Nat} {nr ds du : Nat → Nat} {cr : Nat → Nat → Bool} {x : Int32} (hC : CallFix p m c cc nL s args lw_all RX0) (hK : va_K D vwCl (kB dI dJ) s) (hP : va_P D vwCl (bbW h a dI dJ vIs (nI N) (nI G) vSo vSc vLe fNu fCo fIx fNe fDi fBe fCr fCw fDo fCh fNx) H) (hR : rm_b_narrowCrossings.frames + 1 ≤ R.frames ∧ 8 + (5 + 11) + rm_b_narrowCrossings.locals ≤ R.locals) (hl : ls.size = nL) (hW : (rest.map fun v => v.category).sum ≤ 8) (hI : bbI G N nr ds du cr fNu fCo fNe fDi fCr) (hdg : decode cc pc = .ok (.invokevirtual 89, 3)) (k : W p l e R s m args below meth c H locs 0 0 Q (F0 m (pc + 3) ls (.int (nc G cr G 0 x) :: rest))) : W p l e R s m args below meth c H locs 0 0 Q (F0 m pc ls (.int x :: .ref h :: rest)) := kr_V hC (t_b_narrowCrossings l D h a dI dJ vIs vSo vSc vLe fNu fCo fIx fNe fDi fBe fCr fCw fDo fCh fNx G N nr ds du cr x hI) (cwV 1 hC.2.2.2.2 (lw_V q158 q160 qs7 q24 q161) rfl rfl rfl (by decide +kernel) hR) rfl rfl rfl hl rfl hW ⟨Nat.zero_le _, Nat.zero_le _⟩ hP hK hdg k
abbrev rm_b_firstOpen : Room := { frames := 1, cells := 0, slots := 0, locals := 21 }
set_option maxHeartbeats 4000000 in
set_option maxRecDepth 100000 in
/-- firstOpen -/
theorem t_b_firstOpen (l : Launch) (D : va_G) (h : Nat) (a : Nat → Nat) (dI dJ : ClassId) (vIs : Int32) (vSo : Int32) (vSc : Int32) (vLe : Int32) (fNu : Nat → Int32) (fCo : Nat → Int32) (fIx : Nat → Int32) (fNe : Nat → Int32) (fDi : Nat → Int32) (fBe : Nat → Int64) (fCr : Nat → Int32) (fCw : Nat → Int32) (fDo : Nat → Int32) (fCh : Nat → Int32) (fNx : Nat → Int32) (G N : Nat) (nr ds du : Nat → Nat) (cr : Nat → Nat → Bool) (x : Int32) (hI : bbI G N nr ds du cr fNu fCo fNe fDi fCr) : Met l yX0_firstOpen (ws_ yX0_firstOpen cX0_firstOpen 4 (some .int)) rm_b_firstOpen (rP D (kB dI dJ) (bbW h a dI dJ vIs (nI N) (nI G) vSo vSc vLe fNu fCo fIx fNe fDi fBe fCr fCw fDo fCh fNx) [.ref h, .int x]) (QcRead (fo x G 0)) 0 0 (fun _ => False) := by
  refine en_ri (by decide) (Nat.le_of_ble_eq_true rfl) ?_
  intro p e s m below meth c ls Q hC hP hK hl hret
  have hC : CallFix p m c cX0_firstOpen 4 s _ lw_all RX0 := hC
  have hx := hC.1
  have hb := hC.2.1
  have hl : lv_has ls 4 [(0, .ref h), (1, .int x)] := hl
  have hG : G ≤ 8 := hI.1
  have hN : N ≤ 7 := hI.2.1
  have lp : ∀ (n : Nat) (g : Nat) (ls : Array Slot), (g ≤ G) → (fo x G 0 = fo x (G - g) g) → G < g + n → lv_has ls 4 [(0, .ref h), (1, .int x), (2, .int (nI g))] → W p l e rm_b_firstOpen s m ([.ref h, .int x] : List Value).toArray below meth c s.heap [] 0 0 Q (F0 m 2 ls []) := by
    intro n
    induction n with
    | zero =>
      intro g ls hg he hfu
      exact absurd hfu (by omega)
    | succ n ih =>
      intro g ls hg he hfu hl
      refine lv_iload_n hx hb dX0_firstOpen_2 rfl (lv_at hl 2 rfl) ?_
      refine lv_aload_n hx hb dX0_firstOpen_3 rfl (lv_at hl 0 rfl) ?_
      refine g0_gapCount hC hK hP dX0_firstOpen_4 ?_
      refine nb_ge (tgt := 32) hx hb dX0_firstOpen_7 (by decide) (by omega) (by omega) (fun c1 => ?_) (fun c1 => ?_)
      · refine lv_iconst (v := (-1)) hx hb dX0_firstOpen_32 (by decide) ?_
        exact hret 33 _ _ dX0_firstOpen_33 (by rw [he, show G - g = 0 by omega, fo])
      · rw [show G - g = (G - (g + 1)) + 1 by omega, fo] at he
        refine lv_iload_n hx hb dX0_firstOpen_10 rfl (lv_at hl 1 rfl) ?_
        refine lv_iload_n hx hb dX0_firstOpen_11 rfl (lv_at hl 2 rfl) ?_
        refine k_b_domainOf  hC hK (by decide) hl.1 (Nat.le_of_ble_eq_true rfl) (by omega) dX0_firstOpen_12 ?_
        refine lv_istore_n (lv' := [(3, .int (dm x g)), (0, .ref h), (1, .int x), (2, .int (nI g))]) hx hb dX0_firstOpen_15 rfl hl (by decide) rfl (fun ls hl => ?_)
        refine lv_iload_n hx hb dX0_firstOpen_16 rfl (lv_at hl 0 rfl) ?_
        refine lv_iload_n hx hb dX0_firstOpen_17 rfl (lv_at hl 0 rfl) ?_
        refine lv_iconst (v := nI 1) hx hb dX0_firstOpen_18 (by decide) ?_
        refine lv_isub hx hb dX0_firstOpen_19 ?_
        refine lv_iand hx hb dX0_firstOpen_20 ?_
        refine lv_if_eq (tgt := 26) hx hb dX0_firstOpen_21 (by decide) (fun c2 => ?_) (fun c2 => ?_)
        · rw [if_pos c2] at he
          refine lv_iinc (v := nI (g + 1)) (lv' := [(2, .int (nI (g + 1))), (3, .int (dm x g)), (0, .ref h), (1, .int x)]) hx hb dX0_firstOpen_26 hl (k := 3) rfl (nI_1 _) (by decide) rfl (fun ls hl => ?_)
          refine lv_goto (tgt := 2) hx hb dX0_firstOpen_29 (by decide) ?_
          exact ih (g + 1) _ (by omega) he (by omega) (lv_sub hl [2, 3, 0] rfl)
        · rw [if_neg c2] at he
          refine lv_iload_n hx hb dX0_firstOpen_24 rfl (lv_at hl 3 rfl) ?_
          exact hret 25 _ _ dX0_firstOpen_25 (he.symm)
  refine lv_iconst (v := nI 0) hx hb dX0_firstOpen_0 (by decide) ?_
  refine lv_istore_n (lv' := [(2, .int (nI 0)), (0, .ref h), (1, .int x)]) hx hb dX0_firstOpen_1 rfl hl (by decide) rfl (fun ls hl => ?_)
  exact lp (G + 1) 0 _ (by omega) rfl (by omega) (lv_sub hl [1, 2, 0] rfl)
theorem k_b_firstOpen {p : Program} {l : Launch} {e : Env} {R : Room} {s : State} {m : MethodId} {args : Array Value} {below : List Frame} {meth : Method} {c : Code} {H : Heap} {locs : List Loc} {Q : State → Prop} {cc : ByteArray} {pc nL : Nat} {ls : Array Slot} {rest : List Value} {D : va_G} {h : Nat} {a : Nat → Nat} {dI dJ : ClassId} {vIs : Int32} {vSo : Int32} {vSc : Int32} {vLe : Int32} {fNu : Nat → Int32} {fCo : Nat → Int32} {fIx : Nat → Int32} {fNe : Nat → Int32} {fDi : Nat → Int32} {fBe : Nat → Int64} {fCr : Nat → Int32} {fCw : Nat → Int32} {fDo : Nat → Int32} {fCh : Nat → Int32} {fNx : Nat → Int32} {G N : Nat} {nr ds du : Nat → Nat} {cr : Nat → Nat → Bool} {x : Int32} (hC : CallFix p m c cc nL s args lw_all RX0) (hK : va_K D vwCl (kB dI dJ) s) (hP : va_P D vwCl (bbW h a dI dJ vIs (nI N) (nI G) vSo vSc vLe fNu fCo fIx fNe fDi fBe fCr fCw fDo fCh fNx) H) (hR : rm_b_firstOpen.frames + 1 ≤ R.frames ∧ 8 + (4 + 11) + rm_b_firstOpen.locals ≤ R.locals) (hl : ls.size = nL) (hW : (rest.map fun v => v.category).sum ≤ 8) (hI : bbI G N nr ds du cr fNu fCo fNe fDi fCr) (hdg : decode cc pc = .ok (.invokevirtual 118, 3)) (k : W p l e R s m args below meth c H locs 0 0 Q (F0 m (pc + 3) ls (.int (fo x G 0) :: rest))) : W p l e R s m args below meth c H locs 0 0 Q (F0 m pc ls (.int x :: .ref h :: rest)) := kr_V hC (t_b_firstOpen l D h a dI dJ vIs vSo vSc vLe fNu fCo fIx fNe fDi fBe fCr fCw fDo fCh fNx G N nr ds du cr x hI) (cwV 1 hC.2.2.2.2 (lw_V q171 q173 qs10 q24 q174) rfl rfl rfl (by decide +kernel) hR) rfl rfl rfl hl rfl hW ⟨Nat.zero_le _, Nat.zero_le _⟩ hP hK hdg k
abbrev rm_b_hangTogether : Room := { frames := 1, cells := 0, slots := 0, locals := 21 }
set_option maxHeartbeats 4000000 in
set_option maxRecDepth 100000 in
/-- hangTogether -/
theorem t_b_hangTogether (l : Launch) (D : va_G) (h : Nat) (a : Nat → Nat) (dI dJ : ClassId) (vIs : Int32) (vSo : Int32) (vSc : Int32) (vLe : Int32) (fNu : Nat → Int32) (fCo : Nat → Int32) (fIx : Nat → Int32) (fNe : Nat → Int32) (fDi : Nat → Int32) (fBe : Nat → Int64) (fCr : Nat → Int32) (fCw : Nat → Int32) (fDo : Nat → Int32) (fCh : Nat → Int32) (fNx : Nat → Int32) (G N : Nat) (nr ds du : Nat → Nat) (cr : Nat → Nat → Bool) (x wo : Int32) (hI : bbI G N nr ds du cr fNu fCo fNe fDi fCr) : Met l yX0_hangTogether (ws_ yX0_hangTogether cX0_hangTogether 7 (some .boolean)) rm_b_hangTogether (rP D (kB dI dJ) (bbW h a dI dJ vIs (nI N) (nI G) vSo vSc vLe fNu fCo fIx fNe fDi fBe fCr fCw fDo fCh fNx) [.ref h, .int x, .int wo]) (QcRead (bo (hang G N nr ds x wo))) 0 0 (fun _ => False) := by
  refine en_rz (by decide) (Nat.le_of_ble_eq_true rfl) ?_
  intro p e s m below meth c ls Q hC hP hK hl hret
  have hC : CallFix p m c cX0_hangTogether 7 s _ lw_all RX0 := hC
  have hx := hC.1
  have hb := hC.2.1
  have hl : lv_has ls 7 [(0, .ref h), (1, .int x), (2, .int wo)] := hl
  have hG : G ≤ 8 := hI.1
  have hN : N ≤ 7 := hI.2.1
  have lp : ∀ (n : Nat) (k : Nat) (r : Int32) (ls : Array Slot), (k ≤ 7) → (hgs G nr ds x wo 7 (nI 1) = hgs G nr ds x wo (7 - k) r) → 7 < k + n → lv_has ls 7 [(0, .ref h), (1, .int x), (2, .int wo), (3, .int r), (4, .int (nI k))] → W p l e rm_b_hangTogether s m ([.ref h, .int x, .int wo] : List Value).toArray below meth c s.heap [] 0 0 Q (F0 m 5 ls []) := by
    intro n
    induction n with
    | zero =>
      intro k r ls hk he hfu
      exact absurd hfu (by omega)
    | succ n ih =>
      intro k r ls hk he hfu hl
      refine lv_iload hx hb dX0_hangTogether_5 (lv_at hl 4 rfl) ?_
      refine lv_bipush (v := nI 7) hx hb dX0_hangTogether_7 (by decide) ?_
      refine nb_ge (tgt := 87) hx hb dX0_hangTogether_9 (by decide) (by omega) (by omega) (fun c1 => ?_) (fun c1 => ?_)
      · rw [show 7 - k = 0 by omega, hgs] at he
        refine lv_aload_n hx hb dX0_hangTogether_87 rfl (lv_at hl 0 rfl) ?_
        refine g0_listed hC hK hP dX0_hangTogether_88 ?_
        refine nz_eq (tgt := 106) hx hb dX0_hangTogether_91 (by decide) (by omega) (fun c2 => ?_) (fun c2 => ?_)
        · refine lv_iconst (v := nI 1) hx hb dX0_hangTogether_106 (by decide) ?_
          refine lv_goto (tgt := 111) hx hb dX0_hangTogether_107 (by decide) ?_
          exact hret 111 _ _ dX0_hangTogether_111 (by rw [show hang G N nr ds x wo = true by simp [hang, c2]]; rfl)
        · refine lv_iload_n hx hb dX0_hangTogether_94 rfl (lv_at hl 3 rfl) ?_
          refine lv_iconst (v := nI 1) hx hb dX0_hangTogether_95 (by decide) ?_
          refine lv_aload_n hx hb dX0_hangTogether_96 rfl (lv_at hl 0 rfl) ?_
          refine g0_listed hC hK hP dX0_hangTogether_97 ?_
          refine lv_ishl hx hb dX0_hangTogether_100 ?_
          refine lv_iconst (v := nI 1) hx hb dX0_hangTogether_101 (by decide) ?_
          refine lv_isub hx hb dX0_hangTogether_102 ?_
          refine lv_icmp_ne (tgt := 110) hx hb dX0_hangTogether_103 (by decide) (fun c3 => ?_) (fun c3 => ?_)
          · refine lv_iconst (v := nI 0) hx hb dX0_hangTogether_110 (by decide) ?_
            exact hret 111 _ _ dX0_hangTogether_111 (by rw [show hang G N nr ds x wo = false by simp [hang, c2, he, c3]]; rfl)
          · refine lv_iconst (v := nI 1) hx hb dX0_hangTogether_106 (by decide) ?_
            refine lv_goto (tgt := 111) hx hb dX0_hangTogether_107 (by decide) ?_
            exact hret 111 _ _ dX0_hangTogether_111 (by rw [show hang G N nr ds x wo = true by simp [hang, he, c3]]; rfl)
      · rw [show 7 - k = (7 - (k + 1)) + 1 by omega, hgs] at he
        have ih1 := ih
        have lp2 : ∀ (n : Nat) (g : Nat) (q : Int32) (ls : Array Slot), (g ≤ G) → (hgs G nr ds x wo 7 (nI 1) = hgs G nr ds x wo (7 - (k + 1)) (hgL nr ds x wo (G - g) g q)) → G < g + n → lv_has ls 7 [(0, .ref h), (1, .int x), (2, .int wo), (3, .int q), (4, .int (nI k)), (5, .int (nI g))] → W p l e rm_b_hangTogether s m ([.ref h, .int x, .int wo] : List Value).toArray below meth c s.heap [] 0 0 Q (F0 m 15 ls []) := by
          intro n
          induction n with
          | zero =>
            intro g q ls hg hf hfu
            exact absurd hfu (by omega)
          | succ n ih =>
            intro g q ls hg hf hfu hl
            refine lv_iload hx hb dX0_hangTogether_15 (lv_at hl 5 rfl) ?_
            refine lv_aload_n hx hb dX0_hangTogether_17 rfl (lv_at hl 0 rfl) ?_
            refine g0_gapCount hC hK hP dX0_hangTogether_18 ?_
            refine nb_ge (tgt := 81) hx hb dX0_hangTogether_21 (by decide) (by omega) (by omega) (fun c4 => ?_) (fun c4 => ?_)
            · rw [show G - g = 0 by omega, hgL] at hf
              refine lv_iinc (v := nI (k + 1)) (lv' := [(4, .int (nI (k + 1))), (0, .ref h), (1, .int x), (2, .int wo), (3, .int q), (5, .int (nI g))]) hx hb dX0_hangTogether_81 hl (k := 4) rfl (nI_1 _) (by decide) rfl (fun ls hl => ?_)
              refine lv_goto (tgt := 5) hx hb dX0_hangTogether_84 (by decide) ?_
              exact ih1 (k + 1) q _ (by omega) hf (by omega) (lv_sub hl [1, 2, 3, 4, 0] rfl)
            · rw [show G - g = (G - (g + 1)) + 1 by omega, hgL] at hf
              refine lv_iload hx hb dX0_hangTogether_24 (lv_at hl 5 rfl) ?_
              refine lv_iload_n hx hb dX0_hangTogether_26 rfl (lv_at hl 2 rfl) ?_
              refine lv_icmp_eq (tgt := 75) hx hb dX0_hangTogether_27 (by decide) (fun c5 => ?_) (fun c5 => ?_)
              · rw [show hg1 nr ds x wo g q = q from by rw [hg1, if_pos c5]] at hf
                refine lv_iinc (v := nI (g + 1)) (lv' := [(5, .int (nI (g + 1))), (0, .ref h), (1, .int x), (2, .int wo), (3, .int q), (4, .int (nI k))]) hx hb dX0_hangTogether_75 hl (k := 5) rfl (nI_1 _) (by decide) rfl (fun ls hl => ?_)
                refine lv_goto (tgt := 15) hx hb dX0_hangTogether_78 (by decide) ?_
                exact ih (g + 1) q _ (by omega) hf (by omega) (lv_sub hl [1, 2, 3, 4, 5, 0] rfl)
              · refine lv_iload_n hx hb dX0_hangTogether_30 rfl (lv_at hl 1 rfl) ?_
                refine lv_iload hx hb dX0_hangTogether_31 (lv_at hl 5 rfl) ?_
                refine k_b_domainOf  hC hK (by decide) hl.1 (Nat.le_of_ble_eq_true rfl) (by omega) dX0_hangTogether_33 ?_
                refine lv_bipush (v := nI 6) hx hb dX0_hangTogether_36 (by decide) ?_
                refine lv_iand hx hb dX0_hangTogether_38 ?_
                refine lv_if_eq (tgt := 75) hx hb dX0_hangTogether_39 (by decide) (fun c6 => ?_) (fun c6 => ?_)
                · rw [show hg1 nr ds x wo g q = q from by rw [hg1, if_neg c5, (mk3_a6 _ _ _).mp c6, if_neg (by decide)]] at hf
                  refine lv_iinc (v := nI (g + 1)) (lv' := [(5, .int (nI (g + 1))), (0, .ref h), (1, .int x), (2, .int wo), (3, .int q), (4, .int (nI k))]) hx hb dX0_hangTogether_75 hl (k := 5) rfl (nI_1 _) (by decide) rfl (fun ls hl => ?_)
                  refine lv_goto (tgt := 15) hx hb dX0_hangTogether_78 (by decide) ?_
                  exact ih (g + 1) q _ (by omega) hf (by omega) (lv_sub hl [1, 2, 3, 4, 5, 0] rfl)
                · have h5 : (pb x g 1 || pb x g 2) = true := by cases hq : (pb x g 1 || pb x g 2) with | true => rfl | false => exact absurd ((mk3_a6 _ _ _).mpr hq) c6
                  refine lv_iconst (v := nI 1) hx hb dX0_hangTogether_42 (by decide) ?_
                  refine lv_aload_n hx hb dX0_hangTogether_43 rfl (lv_at hl 0 rfl) ?_
                  refine g0_near hC hK hP dX0_hangTogether_44 ?_
                  refine lv_iload hx hb dX0_hangTogether_47 (lv_at hl 5 rfl) ?_
                  refine l0_near hC hK hP (by omega) dX0_hangTogether_49 ?_
                  refine ct_i (y := nI (nr g)) ((hI.2.2.1 g c4).1) ?_
                  refine lv_ishl hx hb dX0_hangTogether_50 ?_
                  refine lv_iconst (v := nI 1) hx hb dX0_hangTogether_51 (by decide) ?_
                  refine lv_aload_n hx hb dX0_hangTogether_52 rfl (lv_at hl 0 rfl) ?_
                  refine g0_distant hC hK hP dX0_hangTogether_53 ?_
                  refine lv_iload hx hb dX0_hangTogether_56 (lv_at hl 5 rfl) ?_
                  refine l0_distant hC hK hP (by omega) dX0_hangTogether_58 ?_
                  refine ct_i (y := nI (ds g)) ((hI.2.2.1 g c4).2.1) ?_
                  refine lv_ishl hx hb dX0_hangTogether_59 ?_
                  refine lv_ior hx hb dX0_hangTogether_60 ?_
                  refine ct_i (y := enb nr ds g) (rfl) ?_
                  refine lv_istore (lv' := [(6, .int (enb nr ds g)), (0, .ref h), (1, .int x), (2, .int wo), (3, .int q), (4, .int (nI k)), (5, .int (nI g))]) hx hb dX0_hangTogether_61 hl (by decide) rfl (fun ls hl => ?_)
                  refine lv_iload_n hx hb dX0_hangTogether_63 rfl (lv_at hl 4 rfl) ?_
                  refine lv_iload hx hb dX0_hangTogether_64 (lv_at hl 0 rfl) ?_
                  refine lv_iand hx hb dX0_hangTogether_66 ?_
                  refine lv_if_eq (tgt := 75) hx hb dX0_hangTogether_67 (by decide) (fun c7 => ?_) (fun c7 => ?_)
                  · rw [show hg1 nr ds x wo g q = q from by rw [hg1, if_neg c5, h5, if_pos rfl, if_pos c7]] at hf
                    refine lv_iinc (v := nI (g + 1)) (lv' := [(5, .int (nI (g + 1))), (6, .int (enb nr ds g)), (0, .ref h), (1, .int x), (2, .int wo), (3, .int q), (4, .int (nI k))]) hx hb dX0_hangTogether_75 hl (k := 6) rfl (nI_1 _) (by decide) rfl (fun ls hl => ?_)
                    refine lv_goto (tgt := 15) hx hb dX0_hangTogether_78 (by decide) ?_
                    exact ih (g + 1) q _ (by omega) hf (by omega) (lv_sub hl [2, 3, 4, 5, 6, 0] rfl)
                  · rw [show hg1 nr ds x wo g q = q ||| enb nr ds g from by rw [hg1, if_neg c5, h5, if_pos rfl, if_neg c7]] at hf
                    refine lv_iload_n hx hb dX0_hangTogether_70 rfl (lv_at hl 4 rfl) ?_
                    refine lv_iload hx hb dX0_hangTogether_71 (lv_at hl 0 rfl) ?_
                    refine lv_ior hx hb dX0_hangTogether_73 ?_
                    refine lv_istore_n (lv' := [(3, .int (q ||| enb nr ds g)), (6, .int (enb nr ds g)), (0, .ref h), (1, .int x), (2, .int wo), (4, .int (nI k)), (5, .int (nI g))]) hx hb dX0_hangTogether_74 rfl hl (by decide) rfl (fun ls hl => ?_)
                    refine lv_iinc (v := nI (g + 1)) (lv' := [(5, .int (nI (g + 1))), (3, .int (q ||| enb nr ds g)), (6, .int (enb nr ds g)), (0, .ref h), (1, .int x), (2, .int wo), (4, .int (nI k))]) hx hb dX0_hangTogether_75 hl (k := 6) rfl (nI_1 _) (by decide) rfl (fun ls hl => ?_)
                    refine lv_goto (tgt := 15) hx hb dX0_hangTogether_78 (by decide) ?_
                    exact ih (g + 1) (q ||| enb nr ds g) _ (by omega) hf (by omega) (lv_sub hl [3, 4, 5, 1, 6, 0] rfl)
        refine lv_iconst (v := nI 0) hx hb dX0_hangTogether_12 (by decide) ?_
        refine lv_istore (lv' := [(5, .int (nI 0)), (0, .ref h), (1, .int x), (2, .int wo), (3, .int r), (4, .int (nI k))]) hx hb dX0_hangTogether_13 hl (by decide) rfl (fun ls hl => ?_)
        exact lp2 (G + 1) 0 r _ (by omega) he (by omega) (lv_sub hl [1, 2, 3, 4, 5, 0] rfl)
  refine lv_iconst (v := nI 1) hx hb dX0_hangTogether_0 (by decide) ?_
  refine lv_istore_n (lv' := [(3, .int (nI 1)), (0, .ref h), (1, .int x), (2, .int wo)]) hx hb dX0_hangTogether_1 rfl hl (by decide) rfl (fun ls hl => ?_)
  refine lv_iconst (v := nI 0) hx hb dX0_hangTogether_2 (by decide) ?_
  refine lv_istore (lv' := [(4, .int (nI 0)), (3, .int (nI 1)), (0, .ref h), (1, .int x), (2, .int wo)]) hx hb dX0_hangTogether_3 hl (by decide) rfl (fun ls hl => ?_)
  exact lp 8 0 (nI 1) _ (by omega) rfl (by omega) (lv_sub hl [2, 3, 4, 1, 0] rfl)
theorem k_b_hangTogether {p : Program} {l : Launch} {e : Env} {R : Room} {s : State} {m : MethodId} {args : Array Value} {below : List Frame} {meth : Method} {c : Code} {H : Heap} {locs : List Loc} {Q : State → Prop} {cc : ByteArray} {pc nL : Nat} {ls : Array Slot} {rest : List Value} {D : va_G} {h : Nat} {a : Nat → Nat} {dI dJ : ClassId} {vIs : Int32} {vSo : Int32} {vSc : Int32} {vLe : Int32} {fNu : Nat → Int32} {fCo : Nat → Int32} {fIx : Nat → Int32} {fNe : Nat → Int32} {fDi : Nat → Int32} {fBe : Nat → Int64} {fCr : Nat → Int32} {fCw : Nat → Int32} {fDo : Nat → Int32} {fCh : Nat → Int32} {fNx : Nat → Int32} {G N : Nat} {nr ds du : Nat → Nat} {cr : Nat → Nat → Bool} {x wo : Int32} (hC : CallFix p m c cc nL s args lw_all RX0) (hK : va_K D vwCl (kB dI dJ) s) (hP : va_P D vwCl (bbW h a dI dJ vIs (nI N) (nI G) vSo vSc vLe fNu fCo fIx fNe fDi fBe fCr fCw fDo fCh fNx) H) (hR : rm_b_hangTogether.frames + 1 ≤ R.frames ∧ 8 + (7 + 11) + rm_b_hangTogether.locals ≤ R.locals) (hl : ls.size = nL) (hW : (rest.map fun v => v.category).sum ≤ 8) (hI : bbI G N nr ds du cr fNu fCo fNe fDi fCr) (hdg : decode cc pc = .ok (.invokevirtual 111, 3)) (k : W p l e R s m args below meth c H locs 0 0 Q (F0 m (pc + 3) ls (.int (bo (hang G N nr ds x wo)) :: rest))) : W p l e R s m args below meth c H locs 0 0 Q (F0 m pc ls (.int wo :: .int x :: .ref h :: rest)) := kr_V hC (t_b_hangTogether l D h a dI dJ vIs vSo vSc vLe fNu fCo fIx fNe fDi fBe fCr fCw fDo fCh fNx G N nr ds du cr x wo hI) (cwV 2 hC.2.2.2.2 (lw_V q166 q168 qs9 q24 q169) rfl rfl rfl (by decide +kernel) hR) rfl rfl rfl hl rfl hW ⟨Nat.zero_le _, Nat.zero_le _⟩ hP hK hdg k
abbrev rm_b_narrowCuts : Room := { frames := 2, cells := 0, slots := 0, locals := 47 }
set_option maxHeartbeats 4000000 in
set_option maxRecDepth 100000 in
/-- narrowCuts -/
theorem t_b_narrowCuts (l : Launch) (D : va_G) (h : Nat) (a : Nat → Nat) (dI dJ : ClassId) (vIs : Int32) (vSo : Int32) (vSc : Int32) (vLe : Int32) (fNu : Nat → Int32) (fCo : Nat → Int32) (fIx : Nat → Int32) (fNe : Nat → Int32) (fDi : Nat → Int32) (fBe : Nat → Int64) (fCr : Nat → Int32) (fCw : Nat → Int32) (fDo : Nat → Int32) (fCh : Nat → Int32) (fNx : Nat → Int32) (G N : Nat) (nr ds du : Nat → Nat) (cr : Nat → Nat → Bool) (x : Int32) (hI : bbI G N nr ds du cr fNu fCo fNe fDi fCr) : Met l yX0_narrowCuts (ws_ yX0_narrowCuts cX0_narrowCuts 6 (some .int)) rm_b_narrowCuts (rP D (kB dI dJ) (bbW h a dI dJ vIs (nI N) (nI G) vSo vSc vLe fNu fCo fIx fNe fDi fBe fCr fCw fDo fCh fNx) [.ref h, .int x]) (QcRead (nct G N nr ds x)) 0 0 (fun _ => False) := by
  refine en_ri (by decide) (Nat.le_of_ble_eq_true rfl) ?_
  intro p e s m below meth c ls Q hC hP hK hl hret
  have hC : CallFix p m c cX0_narrowCuts 6 s _ lw_all RX0 := hC
  have hx := hC.1
  have hb := hC.2.1
  have hl : lv_has ls 6 [(0, .ref h), (1, .int x)] := hl
  have hG : G ≤ 8 := hI.1
  have hN : N ≤ 7 := hI.2.1
  have lp : ∀ (n : Nat) (g : Nat) (t : Int32) (ls : Array Slot), (g ≤ G) → (nct G N nr ds x = nct2 G N nr ds (G - g) g t) → G < g + n → lv_has ls 6 [(0, .ref h), (1, .int x), (2, .int t), (3, .int (nI g))] → W p l e rm_b_narrowCuts s m ([.ref h, .int x] : List Value).toArray below meth c s.heap [] 0 0 Q (F0 m 15 ls []) := by
    intro n
    induction n with
    | zero =>
      intro g t ls hg he hfu
      exact absurd hfu (by omega)
    | succ n ih =>
      intro g t ls hg he hfu hl
      refine lv_iload_n hx hb dX0_narrowCuts_15 rfl (lv_at hl 3 rfl) ?_
      refine lv_aload_n hx hb dX0_narrowCuts_16 rfl (lv_at hl 0 rfl) ?_
      refine g0_gapCount hC hK hP dX0_narrowCuts_17 ?_
      refine nb_ge (tgt := 70) hx hb dX0_narrowCuts_20 (by decide) (by omega) (by omega) (fun c1 => ?_) (fun c1 => ?_)
      · refine lv_iload_n hx hb dX0_narrowCuts_70 rfl (lv_at hl 2 rfl) ?_
        exact hret 71 _ _ dX0_narrowCuts_71 (by rw [he, show G - g = 0 by omega, nct2])
      · rw [show G - g = (G - (g + 1)) + 1 by omega, nct2] at he
        refine lv_iload_n hx hb dX0_narrowCuts_23 rfl (lv_at hl 2 rfl) ?_
        refine lv_iload_n hx hb dX0_narrowCuts_24 rfl (lv_at hl 3 rfl) ?_
        refine k_b_domainOf  hC hK (by decide) hl.1 (Nat.le_of_ble_eq_true rfl) (by omega) dX0_narrowCuts_25 ?_
        refine lv_istore (lv' := [(4, .int (dm t g)), (0, .ref h), (1, .int x), (2, .int t), (3, .int (nI g))]) hx hb dX0_narrowCuts_28 hl (by decide) rfl (fun ls hl => ?_)
        refine lv_iload hx hb dX0_narrowCuts_30 (lv_at hl 0 rfl) ?_
        refine lv_iconst (v := nI 1) hx hb dX0_narrowCuts_32 (by decide) ?_
        refine lv_iand hx hb dX0_narrowCuts_33 ?_
        refine ct_i (y := bo (pb t g 0)) (mk3_a1 _ _ _) ?_
        refine bz_eq (tgt := 64) hx hb dX0_narrowCuts_34 (by decide) (fun c2 => ?_) (fun c2 => ?_)
        · rw [c2, if_neg (by decide)] at he
          refine lv_iinc (v := nI (g + 1)) (lv' := [(3, .int (nI (g + 1))), (4, .int (dm t g)), (0, .ref h), (1, .int x), (2, .int t)]) hx hb dX0_narrowCuts_64 hl (k := 4) rfl (nI_1 _) (by decide) rfl (fun ls hl => ?_)
          refine lv_goto (tgt := 15) hx hb dX0_narrowCuts_67 (by decide) ?_
          exact ih (g + 1) t _ (by omega) he (by omega) (lv_sub hl [2, 3, 4, 0] rfl)
        · rw [c2, if_pos rfl] at he
          refine lv_iload hx hb dX0_narrowCuts_37 (lv_at hl 0 rfl) ?_
          refine lv_iconst (v := nI 1) hx hb dX0_narrowCuts_39 (by decide) ?_
          refine lv_icmp_eq (tgt := 64) hx hb dX0_narrowCuts_40 (by decide) (fun c3 => ?_) (fun c3 => ?_)
          · rw [if_pos c3] at he
            refine lv_iinc (v := nI (g + 1)) (lv' := [(3, .int (nI (g + 1))), (4, .int (dm t g)), (0, .ref h), (1, .int x), (2, .int t)]) hx hb dX0_narrowCuts_64 hl (k := 4) rfl (nI_1 _) (by decide) rfl (fun ls hl => ?_)
            refine lv_goto (tgt := 15) hx hb dX0_narrowCuts_67 (by decide) ?_
            exact ih (g + 1) t _ (by omega) he (by omega) (lv_sub hl [2, 3, 4, 0] rfl)
          · rw [if_neg c3] at he
            refine lv_aload_n hx hb dX0_narrowCuts_43 rfl (lv_at hl 1 rfl) ?_
            refine lv_iload_n hx hb dX0_narrowCuts_44 rfl (lv_at hl 3 rfl) ?_
            refine lv_iload_n hx hb dX0_narrowCuts_45 rfl (lv_at hl 4 rfl) ?_
            refine k_b_hangTogether (x := t) (wo := nI g) hC hK hP (by decide) hl.1 (Nat.le_of_ble_eq_true rfl) hI dX0_narrowCuts_46 ?_
            refine lv_istore (lv' := [(5, .int (bo (hang G N nr ds t (nI g)))), (4, .int (dm t g)), (0, .ref h), (1, .int x), (2, .int t), (3, .int (nI g))]) hx hb dX0_narrowCuts_49 hl (by decide) rfl (fun ls hl => ?_)
            refine lv_iload hx hb dX0_narrowCuts_51 (lv_at hl 0 rfl) ?_
            refine bz_ne (tgt := 64) hx hb dX0_narrowCuts_53 (by decide) (fun c4 => ?_) (fun c4 => ?_)
            · rw [c4, if_pos rfl] at he
              refine lv_iinc (v := nI (g + 1)) (lv' := [(3, .int (nI (g + 1))), (5, .int (bo (hang G N nr ds t (nI g)))), (4, .int (dm t g)), (0, .ref h), (1, .int x), (2, .int t)]) hx hb dX0_narrowCuts_64 hl (k := 5) rfl (nI_1 _) (by decide) rfl (fun ls hl => ?_)
              refine lv_goto (tgt := 15) hx hb dX0_narrowCuts_67 (by decide) ?_
              exact ih (g + 1) t _ (by omega) he (by omega) (lv_sub hl [3, 4, 5, 0] rfl)
            · rw [c4, if_neg (by decide)] at he
              refine lv_iload_n hx hb dX0_narrowCuts_56 rfl (lv_at hl 4 rfl) ?_
              refine lv_iload_n hx hb dX0_narrowCuts_57 rfl (lv_at hl 5 rfl) ?_
              refine lv_bipush (v := nI 6) hx hb dX0_narrowCuts_58 (by decide) ?_
              refine k_b_restrict  hC hK (by decide) hl.1 (Nat.le_of_ble_eq_true rfl)  dX0_narrowCuts_60 ?_
              refine lv_istore_n (lv' := [(2, .int (rs t g (nI 6))), (5, .int (bo (hang G N nr ds t (nI g)))), (4, .int (dm t g)), (0, .ref h), (1, .int x), (3, .int (nI g))]) hx hb dX0_narrowCuts_63 rfl hl (by decide) rfl (fun ls hl => ?_)
              refine lv_iinc (v := nI (g + 1)) (lv' := [(3, .int (nI (g + 1))), (2, .int (rs t g (nI 6))), (5, .int (bo (hang G N nr ds t (nI g)))), (4, .int (dm t g)), (0, .ref h), (1, .int x)]) hx hb dX0_narrowCuts_64 hl (k := 5) rfl (nI_1 _) (by decide) rfl (fun ls hl => ?_)
              refine lv_goto (tgt := 15) hx hb dX0_narrowCuts_67 (by decide) ?_
              exact ih (g + 1) (rs t g (nI 6)) _ (by omega) he (by omega) (lv_sub hl [4, 5, 1, 0] rfl)
  refine lv_aload_n hx hb dX0_narrowCuts_0 rfl (lv_at hl 0 rfl) ?_
  refine lv_iload_n hx hb dX0_narrowCuts_1 rfl (lv_at hl 1 rfl) ?_
  refine lv_iconst (v := (-1)) hx hb dX0_narrowCuts_2 (by decide) ?_
  refine k_b_hangTogether (x := x) (wo := (-1)) hC hK hP (by decide) hl.1 (Nat.le_of_ble_eq_true rfl) hI dX0_narrowCuts_3 ?_
  refine bz_ne (tgt := 11) hx hb dX0_narrowCuts_6 (by decide) (fun c5 => ?_) (fun c5 => ?_)
  · refine lv_iload_n hx hb dX0_narrowCuts_11 rfl (lv_at hl 1 rfl) ?_
    refine lv_istore_n (lv' := [(2, .int x), (0, .ref h), (1, .int x)]) hx hb dX0_narrowCuts_12 rfl hl (by decide) rfl (fun ls hl => ?_)
    refine lv_iconst (v := nI 0) hx hb dX0_narrowCuts_13 (by decide) ?_
    refine lv_istore_n (lv' := [(3, .int (nI 0)), (2, .int x), (0, .ref h), (1, .int x)]) hx hb dX0_narrowCuts_14 rfl hl (by decide) rfl (fun ls hl => ?_)
    exact lp (G + 1) 0 x _ (by omega) (by rw [nct, c5, if_pos rfl]; rfl) (by omega) (lv_sub hl [2, 3, 1, 0] rfl)
  · refine lv_iconst (v := (-1)) hx hb dX0_narrowCuts_9 (by decide) ?_
    exact hret 10 _ _ dX0_narrowCuts_10 (by rw [nct, c5, if_neg (by decide)])
theorem k_b_narrowCuts {p : Program} {l : Launch} {e : Env} {R : Room} {s : State} {m : MethodId} {args : Array Value} {below : List Frame} {meth : Method} {c : Code} {H : Heap} {locs : List Loc} {Q : State → Prop} {cc : ByteArray} {pc nL : Nat} {ls : Array Slot} {rest : List Value} {D : va_G} {h : Nat} {a : Nat → Nat} {dI dJ : ClassId} {vIs : Int32} {vSo : Int32} {vSc : Int32} {vLe : Int32} {fNu : Nat → Int32} {fCo : Nat → Int32} {fIx : Nat → Int32} {fNe : Nat → Int32} {fDi : Nat → Int32} {fBe : Nat → Int64} {fCr : Nat → Int32} {fCw : Nat → Int32} {fDo : Nat → Int32} {fCh : Nat → Int32} {fNx : Nat → Int32} {G N : Nat} {nr ds du : Nat → Nat} {cr : Nat → Nat → Bool} {x : Int32} (hC : CallFix p m c cc nL s args lw_all RX0) (hK : va_K D vwCl (kB dI dJ) s) (hP : va_P D vwCl (bbW h a dI dJ vIs (nI N) (nI G) vSo vSc vLe fNu fCo fIx fNe fDi fBe fCr fCw fDo fCh fNx) H) (hR : rm_b_narrowCuts.frames + 1 ≤ R.frames ∧ 8 + (6 + 11) + rm_b_narrowCuts.locals ≤ R.locals) (hl : ls.size = nL) (hW : (rest.map fun v => v.category).sum ≤ 8) (hI : bbI G N nr ds du cr fNu fCo fNe fDi fCr) (hdg : decode cc pc = .ok (.invokevirtual 92, 3)) (k : W p l e R s m args below meth c H locs 0 0 Q (F0 m (pc + 3) ls (.int (nct G N nr ds x) :: rest))) : W p l e R s m args below meth c H locs 0 0 Q (F0 m pc ls (.int x :: .ref h :: rest)) := kr_V hC (t_b_narrowCuts l D h a dI dJ vIs vSo vSc vLe fNu fCo fIx fNe fDi fBe fCr fCw fDo fCh fNx G N nr ds du cr x hI) (cwV 1 hC.2.2.2.2 (lw_V q162 q164 qs8 q24 q165) rfl rfl rfl (by decide +kernel) hR) rfl rfl rfl hl rfl hW ⟨Nat.zero_le _, Nat.zero_le _⟩ hP hK hdg k
abbrev rm_b_narrow : Room := { frames := 3, cells := 0, slots := 0, locals := 77 }
set_option maxHeartbeats 4000000 in
set_option maxRecDepth 100000 in
/-- narrow -/
theorem t_b_narrow (l : Launch) (D : va_G) (h : Nat) (a : Nat → Nat) (dI dJ : ClassId) (vIs : Int32) (vSo : Int32) (vSc : Int32) (vLe : Int32) (fNu : Nat → Int32) (fCo : Nat → Int32) (fIx : Nat → Int32) (fNe : Nat → Int32) (fDi : Nat → Int32) (fBe : Nat → Int64) (fCr : Nat → Int32) (fCw : Nat → Int32) (fDo : Nat → Int32) (fCh : Nat → Int32) (fNx : Nat → Int32) (G N : Nat) (nr ds du : Nat → Nat) (cr : Nat → Nat → Bool) (x : Int32) (hI : bbI G N nr ds du cr fNu fCo fNe fDi fCr) : Met l yX0_narrow (ws_ yX0_narrow cX0_narrow 6 (some .int)) rm_b_narrow (rP D (kB dI dJ) (bbW h a dI dJ vIs (nI N) (nI G) vSo vSc vLe fNu fCo fIx fNe fDi fBe fCr fCw fDo fCh fNx) [.ref h, .int x]) (QcRead (nw G N nr ds du cr 30 x)) 0 0 (fun _ => False) := by
  refine en_ri (by decide) (Nat.le_of_ble_eq_true rfl) ?_
  intro p e s m below meth c ls Q hC hP hK hl hret
  have hC : CallFix p m c cX0_narrow 6 s _ lw_all RX0 := hC
  have hx := hC.1
  have hb := hC.2.1
  have hl : lv_has ls 6 [(0, .ref h), (1, .int x)] := hl
  have hG : G ≤ 8 := hI.1
  have hN : N ≤ 7 := hI.2.1
  generalize hr0 : nw G N nr ds du cr 30 x = r0 at hret
  have lp : ∀ (n : Nat) (k : Nat) (t : Int32) (ch : Bool) (ls : Array Slot), (k ≤ 30) → (r0 = if ch then nw G N nr ds du cr (30 - k) t else t) → 30 < k + n → lv_has ls 6 [(0, .ref h), (1, .int x), (2, .int t), (3, .int (bo ch)), (4, .int (nI k))] → W p l e rm_b_narrow s m ([.ref h, .int x] : List Value).toArray below meth c s.heap [] 0 0 Q (F0 m 7 ls []) := by
    intro n
    induction n with
    | zero =>
      intro k t ch ls hk he hfu
      exact absurd hfu (by omega)
    | succ n ih =>
      intro k t ch ls hk he hfu hl
      refine lv_iload hx hb dX0_narrow_7 (lv_at hl 4 rfl) ?_
      refine lv_bipush (v := nI 30) hx hb dX0_narrow_9 (by decide) ?_
      refine nb_ge (tgt := 89) hx hb dX0_narrow_11 (by decide) (by omega) (by omega) (fun c1 => ?_) (fun c1 => ?_)
      · refine lv_iload_n hx hb dX0_narrow_89 rfl (lv_at hl 2 rfl) ?_
        exact hret 90 _ _ dX0_narrow_90 (by rw [he, show 30 - k = 0 by omega, nw]; cases ch <;> rfl)
      · refine lv_iload_n hx hb dX0_narrow_14 rfl (lv_at hl 3 rfl) ?_
        refine bz_eq (tgt := 89) hx hb dX0_narrow_15 (by decide) (fun c2 => ?_) (fun c2 => ?_)
        · refine lv_iload_n hx hb dX0_narrow_89 rfl (lv_at hl 2 rfl) ?_
          exact hret 90 _ _ dX0_narrow_90 (by rw [he, c2]; rfl)
        · rw [c2, if_pos rfl, show 30 - k = (30 - (k + 1)) + 1 by omega, nw] at he
          have j59 : ∀ (t2 t3 : Int32) (ls : Array Slot), (nw1 G N nr ds du cr t = t3) → lv_has ls 6 [(5, .int t2), (0, .ref h), (1, .int x), (2, .int t), (3, .int (bo ch)), (4, .int (nI k))] → W p l e rm_b_narrow s m ([.ref h, .int x] : List Value).toArray below meth c s.heap [] 0 0 Q (F0 m 59 ls [.int t3]) := by
            intro t2 t3 ls e3 hl
            refine lv_istore (lv' := [(5, .int t3), (0, .ref h), (1, .int x), (2, .int t), (3, .int (bo ch)), (4, .int (nI k))]) hx hb dX0_narrow_59 hl (by decide) rfl (fun ls hl => ?_)
            refine lv_iload hx hb dX0_narrow_61 (lv_at hl 0 rfl) ?_
            refine lv_if_ge (tgt := 68) hx hb dX0_narrow_63 (by decide) (fun c3 => ?_) (fun c3 => ?_)
            · rw [e3, if_pos c3] at he
              refine lv_iload hx hb dX0_narrow_68 (lv_at hl 0 rfl) ?_
              refine lv_iload_n hx hb dX0_narrow_70 rfl (lv_at hl 3 rfl) ?_
              refine lv_icmp_eq (tgt := 78) hx hb dX0_narrow_71 (by decide) (fun c4 => ?_) (fun c4 => ?_)
              · rw [if_pos c4] at he
                refine lv_iconst (v := nI 0) hx hb dX0_narrow_78 (by decide) ?_
                refine ct_i (y := bo false) (rfl) ?_
                refine lv_istore_n (lv' := [(3, .int (bo false)), (5, .int t3), (0, .ref h), (1, .int x), (2, .int t), (4, .int (nI k))]) hx hb dX0_narrow_79 rfl hl (by decide) rfl (fun ls hl => ?_)
                refine lv_iload hx hb dX0_narrow_80 (lv_at hl 1 rfl) ?_
                refine lv_istore_n (lv' := [(2, .int t3), (3, .int (bo false)), (5, .int t3), (0, .ref h), (1, .int x), (4, .int (nI k))]) hx hb dX0_narrow_82 rfl hl (by decide) rfl (fun ls hl => ?_)
                refine lv_iinc (v := nI (k + 1)) (lv' := [(4, .int (nI (k + 1))), (2, .int t3), (3, .int (bo false)), (5, .int t3), (0, .ref h), (1, .int x)]) hx hb dX0_narrow_83 hl (k := 5) rfl (nI_1 _) (by decide) rfl (fun ls hl => ?_)
                refine lv_goto (tgt := 7) hx hb dX0_narrow_86 (by decide) ?_
                exact ih (k + 1) t3 false _ (by omega) he (by omega) (lv_sub hl [4, 5, 1, 2, 0] rfl)
              · rw [if_neg c4] at he
                refine lv_iconst (v := nI 1) hx hb dX0_narrow_74 (by decide) ?_
                refine ct_i (y := bo true) (rfl) ?_
                refine lv_goto (tgt := 79) hx hb dX0_narrow_75 (by decide) ?_
                refine lv_istore_n (lv' := [(3, .int (bo true)), (5, .int t3), (0, .ref h), (1, .int x), (2, .int t), (4, .int (nI k))]) hx hb dX0_narrow_79 rfl hl (by decide) rfl (fun ls hl => ?_)
                refine lv_iload hx hb dX0_narrow_80 (lv_at hl 1 rfl) ?_
                refine lv_istore_n (lv' := [(2, .int t3), (3, .int (bo true)), (5, .int t3), (0, .ref h), (1, .int x), (4, .int (nI k))]) hx hb dX0_narrow_82 rfl hl (by decide) rfl (fun ls hl => ?_)
                refine lv_iinc (v := nI (k + 1)) (lv' := [(4, .int (nI (k + 1))), (2, .int t3), (3, .int (bo true)), (5, .int t3), (0, .ref h), (1, .int x)]) hx hb dX0_narrow_83 hl (k := 5) rfl (nI_1 _) (by decide) rfl (fun ls hl => ?_)
                refine lv_goto (tgt := 7) hx hb dX0_narrow_86 (by decide) ?_
                exact ih (k + 1) t3 true _ (by omega) he (by omega) (lv_sub hl [4, 5, 1, 2, 0] rfl)
            · rw [e3, if_neg c3] at he
              refine lv_iconst (v := (-1)) hx hb dX0_narrow_66 (by decide) ?_
              exact hret 67 _ _ dX0_narrow_67 (he.symm)
          have j41 : ∀ (t1 t2 : Int32) (ls : Array Slot), (nw1 G N nr ds du cr t = if 0 ≤ t2 then nct G N nr ds t2 else t2) → lv_has ls 6 [(5, .int t1), (0, .ref h), (1, .int x), (2, .int t), (3, .int (bo ch)), (4, .int (nI k))] → W p l e rm_b_narrow s m ([.ref h, .int x] : List Value).toArray below meth c s.heap [] 0 0 Q (F0 m 41 ls [.int t2]) := by
            intro t1 t2 ls e2 hl
            refine lv_istore (lv' := [(5, .int t2), (0, .ref h), (1, .int x), (2, .int t), (3, .int (bo ch)), (4, .int (nI k))]) hx hb dX0_narrow_41 hl (by decide) rfl (fun ls hl => ?_)
            refine lv_iload hx hb dX0_narrow_43 (lv_at hl 0 rfl) ?_
            refine lv_if_ge (tgt := 53) hx hb dX0_narrow_45 (by decide) (fun c5 => ?_) (fun c5 => ?_)
            · rw [if_pos c5] at e2
              refine lv_aload_n hx hb dX0_narrow_53 rfl (lv_at hl 1 rfl) ?_
              refine lv_iload hx hb dX0_narrow_54 (lv_at hl 0 rfl) ?_
              refine k_b_narrowCuts  hC hK hP (by decide) hl.1 (Nat.le_of_ble_eq_true rfl) hI dX0_narrow_56 ?_
              exact j59 _ _ _ e2 (lv_sub hl [0, 1, 2, 3, 4, 5] rfl)
            · rw [if_neg c5] at e2
              refine lv_iload hx hb dX0_narrow_48 (lv_at hl 0 rfl) ?_
              refine lv_goto (tgt := 59) hx hb dX0_narrow_50 (by decide) ?_
              exact j59 _ _ _ e2 (lv_sub hl [0, 1, 2, 3, 4, 5] rfl)
          refine lv_aload_n hx hb dX0_narrow_18 rfl (lv_at hl 0 rfl) ?_
          refine lv_iload_n hx hb dX0_narrow_19 rfl (lv_at hl 2 rfl) ?_
          refine k_b_narrowIslands  hC hK hP (by decide) hl.1 (Nat.le_of_ble_eq_true rfl) hI dX0_narrow_20 ?_
          refine lv_istore (lv' := [(5, .int (nis G nr ds du N 0 t)), (0, .ref h), (1, .int x), (2, .int t), (3, .int (bo ch)), (4, .int (nI k))]) hx hb dX0_narrow_23 hl (by decide) rfl (fun ls hl => ?_)
          refine lv_iload hx hb dX0_narrow_25 (lv_at hl 0 rfl) ?_
          refine lv_if_ge (tgt := 35) hx hb dX0_narrow_27 (by decide) (fun c6 => ?_) (fun c6 => ?_)
          · refine lv_aload_n hx hb dX0_narrow_35 rfl (lv_at hl 1 rfl) ?_
            refine lv_iload hx hb dX0_narrow_36 (lv_at hl 0 rfl) ?_
            refine k_b_narrowCrossings  hC hK hP (by decide) hl.1 (Nat.le_of_ble_eq_true rfl) hI dX0_narrow_38 ?_
            exact j41 _ _ _ (by simp only [nw1, if_pos c6]) (lv_sub hl [0, 1, 2, 3, 4, 5] rfl)
          · refine lv_iload hx hb dX0_narrow_30 (lv_at hl 0 rfl) ?_
            refine lv_goto (tgt := 41) hx hb dX0_narrow_32 (by decide) ?_
            exact j41 _ _ _ (by simp only [nw1, if_neg c6]) (lv_sub hl [0, 1, 2, 3, 4, 5] rfl)
  refine lv_iload_n hx hb dX0_narrow_0 rfl (lv_at hl 1 rfl) ?_
  refine lv_istore_n (lv' := [(2, .int x), (0, .ref h), (1, .int x)]) hx hb dX0_narrow_1 rfl hl (by decide) rfl (fun ls hl => ?_)
  refine lv_iconst (v := nI 1) hx hb dX0_narrow_2 (by decide) ?_
  refine ct_i (y := bo true) (rfl) ?_
  refine lv_istore_n (lv' := [(3, .int (bo true)), (2, .int x), (0, .ref h), (1, .int x)]) hx hb dX0_narrow_3 rfl hl (by decide) rfl (fun ls hl => ?_)
  refine lv_iconst (v := nI 0) hx hb dX0_narrow_4 (by decide) ?_
  refine lv_istore (lv' := [(4, .int (nI 0)), (3, .int (bo true)), (2, .int x), (0, .ref h), (1, .int x)]) hx hb dX0_narrow_5 hl (by decide) rfl (fun ls hl => ?_)
  exact lp 31 0 x true _ (by omega) hr0.symm (by omega) (lv_sub hl [3, 4, 2, 1, 0] rfl)
theorem k_b_narrow {p : Program} {l : Launch} {e : Env} {R : Room} {s : State} {m : MethodId} {args : Array Value} {below : List Frame} {meth : Method} {c : Code} {H : Heap} {locs : List Loc} {Q : State → Prop} {cc : ByteArray} {pc nL : Nat} {ls : Array Slot} {rest : List Value} {D : va_G} {h : Nat} {a : Nat → Nat} {dI dJ : ClassId} {vIs : Int32} {vSo : Int32} {vSc : Int32} {vLe : Int32} {fNu : Nat → Int32} {fCo : Nat → Int32} {fIx : Nat → Int32} {fNe : Nat → Int32} {fDi : Nat → Int32} {fBe : Nat → Int64} {fCr : Nat → Int32} {fCw : Nat → Int32} {fDo : Nat → Int32} {fCh : Nat → Int32} {fNx : Nat → Int32} {G N : Nat} {nr ds du : Nat → Nat} {cr : Nat → Nat → Bool} {x : Int32} (hC : CallFix p m c cc nL s args lw_all RX0) (hK : va_K D vwCl (kB dI dJ) s) (hP : va_P D vwCl (bbW h a dI dJ vIs (nI N) (nI G) vSo vSc vLe fNu fCo fIx fNe fDi fBe fCr fCw fDo fCh fNx) H) (hR : rm_b_narrow.frames + 1 ≤ R.frames ∧ 8 + (6 + 11) + rm_b_narrow.locals ≤ R.locals) (hl : ls.size = nL) (hW : (rest.map fun v => v.category).sum ≤ 8) (hI : bbI G N nr ds du cr fNu fCo fNe fDi fCr) (hdg : decode cc pc = .ok (.invokevirtual 114, 3)) (k : W p l e R s m args below meth c H locs 0 0 Q (F0 m (pc + 3) ls (.int (nw G N nr ds du cr 30 x) :: rest))) : W p l e R s m args below meth c H locs 0 0 Q (F0 m pc ls (.int x :: .ref h :: rest)) := kr_V hC (t_b_narrow l D h a dI dJ vIs vSo vSc vLe fNu fCo fIx fNe fDi fBe fCr fCw fDo fCh fNx G N nr ds du cr x hI) (cwV 1 hC.2.2.2.2 (lw_V q127 q129 qs3 q24 q130) rfl rfl rfl (by decide +kernel) hR) rfl rfl rfl hl rfl hW ⟨Nat.zero_le _, Nat.zero_le _⟩ hP hK hdg k
end
section
/-! BridgeBoard's search, as plain functions -/
def kcw (x : Int32) : Nat → Nat → (Nat → Int32) → (Nat → Int32)
  | 0, _, f => f
  | n + 1, g, f => kcw x n (g + 1) (upd f (3 * g + lw x g) (f (3 * g + lw x g) + nI 1))
def clr (k : Nat) (f : Nat → Int32) : Nat → Int32 := fun j => if j < k then nI 0 else f j
theorem clr_0 (f : Nat → Int32) : clr 0 f = f := by funext j; simp [clr]
theorem clr_s (k : Nat) (f : Nat → Int32) : upd (clr k f) k (nI 0) = clr (k + 1) f := by
  funext j
  unfold upd clr
  by_cases h : j = k
  · subst h; simp
  · by_cases h2 : j < k
    · simp [h, h2, Nat.lt_succ_of_lt h2]
    · simp [h, h2, show ¬ j < k + 1 by omega]
section
variable (G N : Nat) (nr ds du : Nat → Nat) (cr : Nat → Nat → Bool)
def gsX (x : Int32) (g b : Nat) : Int32 := nw G N nr ds du cr 30 (rs x g (nI 1 <<< (nI b &&& 31)))
def gsR (x : Int32) (g b : Nat) : Bool := decide (b ≤ 2) && (pb x g b && decide (0 ≤ gsX G N nr ds du cr x g b))
def gsN (nx : Nat → Int32) (d b : Nat) : Nat → Int32 := if 2 < b then nx else upd nx d (nI (b + 1))
def gsD (dom : Nat → Int32) (d g b : Nat) : Nat → Int32 := if gsR G N nr ds du cr (dom d) g b then upd dom (d + 1) (gsX G N nr ds du cr (dom d) g b) else dom
abbrev Sg : Type := Nat × Bool × (Nat → Int32) × (Nat → Int32) × (Nat → Int32) × (Nat → Int32) × Int32 × Int32
/-- one step of the search: (depth + 1, entering, domains, choiceGap, nextBridges, countWith, solutionCount, leastSolution) -/
def stp : Sg → Sg
  | (0, en, dom, ch, nx, cw, sc, le) => (0, en, dom, ch, nx, cw, sc, le)
  | (d + 1, true, dom, ch, nx, cw, sc, le) =>
    if 0 ≤ fo (dom d) G 0 then (d + 1, false, dom, upd ch d (fo (dom d) G 0), upd nx d (nI 0), cw, sc, le)
    else (d, false, dom, upd ch d (fo (dom d) G 0), upd nx d (nI 0), kcw (dom d) G 0 cw, sc + nI 1, if sc = 0 then dom d else le)
  | (d + 1, false, dom, ch, nx, cw, sc, le) =>
    if gsR G N nr ds du cr (dom d) (ch d).toNatClampNeg (nx d).toNatClampNeg then
      (d + 2, true, gsD G N nr ds du cr dom d (ch d).toNatClampNeg (nx d).toNatClampNeg, ch, gsN nx d (nx d).toNatClampNeg, cw, sc, le)
    else if nI 2 < gsN nx d (nx d).toNatClampNeg d then (d, false, dom, ch, gsN nx d (nx d).toNatClampNeg, cw, sc, le)
    else (d + 1, false, dom, ch, gsN nx d (nx d).toNatClampNeg, cw, sc, le)
def run : Nat → Sg → Sg
  | 0, st => st
  | k + 1, st => if st.1 = 0 then st else run k (stp G N nr ds du cr st)
/-- what the search's places may rely on -/
def okS (Inv : Sg → Prop) : Prop := (∀ st, Inv st → Inv (stp G N nr ds du cr st)) ∧ (∀ d en dom ch nx cw sc le, Inv (d + 1, en, dom, ch, nx, cw, sc, le) → d ≤ 8 ∧ (en = false → ∃ g b, ch d = nI g ∧ g < G ∧ nx d = nI b ∧ b ≤ 3))
def st0 (fDo fCh fNx fCw : Nat → Int32) : Sg :=
  let y := nw G N nr ds du cr 30 ((nI 1 <<< (nI (3 * G) &&& 31)) - nI 1)
  (if 0 ≤ y then 1 else 0, true, upd fDo 0 y, fCh, fNx, clr 24 fCw, nI 0, nI 0)
end
theorem dm_bit (x : Int32) (g : Nat) {b : Nat} (hb : b < 3) : bt (dm x g) b = pb x g b := by
  rw [dm, mk3_bt]
  rcases (show b = 0 ∨ b = 1 ∨ b = 2 by omega) with rfl | rfl | rfl <;> simp
def dpI : Nat → Int32
  | 0 => -1
  | d + 1 => nI d
theorem dpI_m1 (d : Nat) : nI d + (-1) = dpI d := by
  cases d with
  | zero => rfl
  | succ d => exact pk_m1 d
section
variable {G N : Nat} {nr ds du : Nat → Nat} {cr : Nat → Nat → Bool} {d : Nat} {en : Bool} {dom ch nx cw : Nat → Int32} {sc le : Int32}
theorem stp_t1 (h : 0 ≤ fo (dom d) G 0) : stp G N nr ds du cr (d + 1, true, dom, ch, nx, cw, sc, le) = (d + 1, false, dom, upd ch d (fo (dom d) G 0), upd nx d (nI 0), cw, sc, le) := by
  simp only [stp, if_pos h]
theorem stp_t2 (h : ¬ 0 ≤ fo (dom d) G 0) : stp G N nr ds du cr (d + 1, true, dom, ch, nx, cw, sc, le) = (d, false, dom, upd ch d (fo (dom d) G 0), upd nx d (nI 0), kcw (dom d) G 0 cw, sc + nI 1, if sc = 0 then dom d else le) := by
  simp only [stp, if_neg h]
theorem stp_f1 {g b : Nat} (hg : (ch d).toNatClampNeg = g) (hb : (nx d).toNatClampNeg = b) (h : gsR G N nr ds du cr (dom d) g b = true) : stp G N nr ds du cr (d + 1, false, dom, ch, nx, cw, sc, le) = (d + 2, true, gsD G N nr ds du cr dom d g b, ch, gsN nx d b, cw, sc, le) := by
  subst hg; subst hb
  simp only [stp, if_pos h]
theorem stp_f2 {g b : Nat} (hg : (ch d).toNatClampNeg = g) (hb : (nx d).toNatClampNeg = b) (h : gsR G N nr ds du cr (dom d) g b = false) (h2 : nI 2 < gsN nx d b d) : stp G N nr ds du cr (d + 1, false, dom, ch, nx, cw, sc, le) = (d, false, dom, ch, gsN nx d b, cw, sc, le) := by
  subst hg; subst hb
  simp only [stp, h, if_pos h2, Bool.false_eq_true, if_false]
theorem stp_f3 {g b : Nat} (hg : (ch d).toNatClampNeg = g) (hb : (nx d).toNatClampNeg = b) (h : gsR G N nr ds du cr (dom d) g b = false) (h2 : ¬ nI 2 < gsN nx d b d) : stp G N nr ds du cr (d + 1, false, dom, ch, nx, cw, sc, le) = (d + 1, false, dom, ch, gsN nx d b, cw, sc, le) := by
  subst hg; subst hb
  simp only [stp, h, if_neg h2, Bool.false_eq_true, if_false]
theorem run_0 (k : Nat) : run G N nr ds du cr k (0, en, dom, ch, nx, cw, sc, le) = (0, en, dom, ch, nx, cw, sc, le) := by
  cases k with
  | zero => rfl
  | succ k => simp only [run, if_true]
theorem run_s {k M : Nat} (hk : k < M) {st : Sg} (he : run G N nr ds du cr (M - k) (d + 1, en, dom, ch, nx, cw, sc, le) = st) {s2 : Sg} (h2 : stp G N nr ds du cr (d + 1, en, dom, ch, nx, cw, sc, le) = s2) : run G N nr ds du cr (M - (k + 1)) s2 = st := by
  rw [← he, show M - k = (M - (k + 1)) + 1 by omega, run, if_neg (by simp), h2]
end
end
section
/-! BridgeBoard: keep, guess -/
abbrev rm_b_keep : Room := { frames := 1, cells := 0, slots := 0, locals := 21 }
set_option maxHeartbeats 4000000 in
set_option maxRecDepth 100000 in
/-- keep -/
theorem t_b_keep (l : Launch) (D : va_G) (h : Nat) (a : Nat → Nat) (dI dJ : ClassId) (vIs : Int32) (vSo : Int32) (vSc : Int32) (vLe : Int32) (fNu : Nat → Int32) (fCo : Nat → Int32) (fIx : Nat → Int32) (fNe : Nat → Int32) (fDi : Nat → Int32) (fBe : Nat → Int64) (fCr : Nat → Int32) (fCw : Nat → Int32) (fDo : Nat → Int32) (fCh : Nat → Int32) (fNx : Nat → Int32) (G N : Nat) (nr ds du : Nat → Nat) (cr : Nat → Nat → Bool) (x : Int32) (hI : bbI G N nr ds du cr fNu fCo fNe fDi fCr) (sz : Nat) : Met l yX0_keep (ws_ yX0_keep cX0_keep 4 none) rm_b_keep (cP D (kB dI dJ) (bbW h a dI dJ vIs (nI N) (nI G) vSo vSc vLe fNu fCo fIx fNe fDi fBe fCr fCw fDo fCh fNx) sz [.ref h, .int x]) (cQv D (kB dI dJ) (bbW h a dI dJ vIs (nI N) (nI G) vSo vSc vLe fNu fCo fIx fNe fDi fBe fCr fCw fDo fCh fNx) sz (fun (u : Unit) => True) (fun (u : Unit) => bbW h a dI dJ vIs (nI N) (nI G) vSo (vSc + nI 1) (if vSc = 0 then x else vLe) fNu fCo fIx fNe fDi fBe fCr (kcw x G 0 fCw) fDo fCh fNx)) 0 0 (va_A (bbW h a dI dJ vIs (nI N) (nI G) vSo vSc vLe fNu fCo fIx fNe fDi fBe fCr fCw fDo fCh fNx) sz) := by
  refine en_v (by decide) (Nat.le_of_ble_eq_true rfl) ?_
  intro p e s m below meth c ls Q A hC hP hK hD hA hS hl hret
  have hC : CallFix p m c cX0_keep 4 s _ lw_all RX0 := hC
  have hx := hC.1
  have hb := hC.2.1
  have hl : lv_has ls 4 [(0, .ref h), (1, .int x)] := hl
  have hG : G ≤ 8 := hI.1
  have hN : N ≤ 7 := hI.2.1
  have lp : ∀ (n : Nat) (g : Nat) (f : Nat → Int32) (le : Int32) (ls : Array Slot), (g ≤ G) → (kcw x (G - g) g f = kcw x G 0 fCw) → (le = if vSc = 0 then x else vLe) → G < g + n → ∀ (H : Heap) (locs : List Loc), va_P D vwCl (bbW h a dI dJ vIs (nI N) (nI G) vSo (vSc + nI 1) le fNu fCo fIx fNe fDi fBe fCr f fDo fCh fNx) H → va_D A (bbW h a dI dJ vIs (nI N) (nI G) vSo (vSc + nI 1) le fNu fCo fIx fNe fDi fBe fCr f fDo fCh fNx) → va_S A s.heap H locs → lv_has ls 4 [(0, .ref h), (1, .int x), (2, .int (nI g))] → W p l e rm_b_keep s m ([.ref h, .int x] : List Value).toArray below meth c H locs 0 0 Q (F0 m 24 ls []) := by
    intro n
    induction n with
    | zero =>
      intro g f le ls hg he hle hfu
      exact absurd hfu (by omega)
    | succ n ih =>
      intro g f le ls hg he hle hfu H locs hP hD hS hl
      refine lv_iload_n hx hb dX0_keep_24 rfl (lv_at hl 2 rfl) ?_
      refine lv_aload_n hx hb dX0_keep_25 rfl (lv_at hl 0 rfl) ?_
      refine g0_gapCount hC hK hP dX0_keep_26 ?_
      refine nb_ge (tgt := 61) hx hb dX0_keep_29 (by decide) (by omega) (by omega) (fun c1 => ?_) (fun c1 => ?_)
      · rw [show G - g = 0 by omega, kcw] at he
        subst he
        subst hle
        exact hret _ _ 61 _ () dX0_keep_61 (trivial) hP hD hS
      · rw [show G - g = (G - (g + 1)) + 1 by omega, kcw] at he
        have hlw := lw_le x g
        refine lv_iload_n hx hb dX0_keep_32 rfl (lv_at hl 1 rfl) ?_
        refine lv_iload_n hx hb dX0_keep_33 rfl (lv_at hl 2 rfl) ?_
        refine k_b_domainOf  hC hK (by decide) hl.1 (Nat.le_of_ble_eq_true rfl) (by omega) dX0_keep_34 ?_
        refine lv_istore_n (lv' := [(3, .int (dm x g)), (0, .ref h), (1, .int x), (2, .int (nI g))]) hx hb dX0_keep_37 rfl hl (by decide) rfl (fun ls hl => ?_)
        refine lv_aload_n hx hb dX0_keep_38 rfl (lv_at hl 1 rfl) ?_
        refine g0_countWith hC hK hP dX0_keep_39 ?_
        refine lv_iconst (v := nI 3) hx hb dX0_keep_42 (by decide) ?_
        refine lv_iload_n hx hb dX0_keep_43 rfl (lv_at hl 3 rfl) ?_
        refine nn_mul hx hb dX0_keep_44 ?_
        refine lv_iload_n hx hb dX0_keep_45 rfl (lv_at hl 0 rfl) ?_
        refine k_b_lowest (a1 := pb x g 0) (a2 := pb x g 1) (a3 := pb x g 2) hC hK (by decide) hl.1 (Nat.le_of_ble_eq_true rfl) dX0_keep_46 ?_
        refine ct_i (y := nI (lw x g)) (rfl) ?_
        refine nn_add hx hb dX0_keep_49 ?_
        refine lv_dup2_11 hx hb dX0_keep_50 rfl rfl ?_
        refine l0_countWith hC hK hP (by omega) dX0_keep_51 ?_
        refine lv_iconst (v := nI 1) hx hb dX0_keep_52 (by decide) ?_
        refine lv_iadd hx hb dX0_keep_53 ?_
        refine s0_countWith hC hK hP hD hS (by omega) dX0_keep_54 (fun H locs hP hD hS => ?_)
        refine lv_iinc (v := nI (g + 1)) (lv' := [(2, .int (nI (g + 1))), (3, .int (dm x g)), (0, .ref h), (1, .int x)]) hx hb dX0_keep_55 hl (k := 3) rfl (nI_1 _) (by decide) rfl (fun ls hl => ?_)
        refine lv_goto (tgt := 24) hx hb dX0_keep_58 (by decide) ?_
        exact ih (g + 1) _ le _ (by omega) he hle (by omega) _ _ hP hD hS (lv_sub hl [2, 3, 0] rfl)
  refine lv_aload_n hx hb dX0_keep_0 rfl (lv_at hl 0 rfl) ?_
  refine g0_solutionCount hC hK hP dX0_keep_1 ?_
  refine lv_if_ne (tgt := 12) hx hb dX0_keep_4 (by decide) (fun c2 => ?_) (fun c2 => ?_)
  · refine lv_aload_n hx hb dX0_keep_12 rfl (lv_at hl 0 rfl) ?_
    refine lv_dup hx hb dX0_keep_13 rfl ?_
    refine g0_solutionCount hC hK hP dX0_keep_14 ?_
    refine lv_iconst (v := nI 1) hx hb dX0_keep_17 (by decide) ?_
    refine lv_iadd hx hb dX0_keep_18 ?_
    refine p0_solutionCount hC hK hP hD hS dX0_keep_19 (fun H locs hP hD hS => ?_)
    refine lv_iconst (v := nI 0) hx hb dX0_keep_22 (by decide) ?_
    refine lv_istore_n (lv' := [(2, .int (nI 0)), (0, .ref h), (1, .int x)]) hx hb dX0_keep_23 rfl hl (by decide) rfl (fun ls hl => ?_)
    exact lp (G + 1) 0 fCw _ _ (by omega) rfl (if_neg c2).symm (by omega) _ _ hP hD hS (lv_sub hl [1, 2, 0] rfl)
  · refine lv_aload_n hx hb dX0_keep_7 rfl (lv_at hl 0 rfl) ?_
    refine lv_iload_n hx hb dX0_keep_8 rfl (lv_at hl 1 rfl) ?_
    refine p0_leastSolution hC hK hP hD hS dX0_keep_9 (fun H locs hP hD hS => ?_)
    refine lv_aload_n hx hb dX0_keep_12 rfl (lv_at hl 0 rfl) ?_
    refine lv_dup hx hb dX0_keep_13 rfl ?_
    refine g0_solutionCount hC hK hP dX0_keep_14 ?_
    refine lv_iconst (v := nI 1) hx hb dX0_keep_17 (by decide) ?_
    refine lv_iadd hx hb dX0_keep_18 ?_
    refine p0_solutionCount hC hK hP hD hS dX0_keep_19 (fun H locs hP hD hS => ?_)
    refine lv_iconst (v := nI 0) hx hb dX0_keep_22 (by decide) ?_
    refine lv_istore_n (lv' := [(2, .int (nI 0)), (0, .ref h), (1, .int x)]) hx hb dX0_keep_23 rfl hl (by decide) rfl (fun ls hl => ?_)
    exact lp (G + 1) 0 fCw _ _ (by omega) rfl (if_pos c2).symm (by omega) _ _ hP hD hS (lv_sub hl [1, 2, 0] rfl)
theorem k_b_keep {p : Program} {l : Launch} {e : Env} {R : Room} {s : State} {m : MethodId} {args : Array Value} {below : List Frame} {meth : Method} {c : Code} {H : Heap} {locs : List Loc} {Q : State → Prop} {cc : ByteArray} {pc nL : Nat} {ls : Array Slot} {rest : List Value} {D : va_G} {A : Nat → Prop} {H0 : Heap} {h : Nat} {a : Nat → Nat} {dI dJ : ClassId} {vIs : Int32} {vSo : Int32} {vSc : Int32} {vLe : Int32} {fNu : Nat → Int32} {fCo : Nat → Int32} {fIx : Nat → Int32} {fNe : Nat → Int32} {fDi : Nat → Int32} {fBe : Nat → Int64} {fCr : Nat → Int32} {fCw : Nat → Int32} {fDo : Nat → Int32} {fCh : Nat → Int32} {fNx : Nat → Int32} {G N : Nat} {nr ds du : Nat → Nat} {cr : Nat → Nat → Bool} {x : Int32} (hC : CallFix p m c cc nL s args lw_all RX0) (hK : va_K D vwCl (kB dI dJ) s) (hP : va_P D vwCl (bbW h a dI dJ vIs (nI N) (nI G) vSo vSc vLe fNu fCo fIx fNe fDi fBe fCr fCw fDo fCh fNx) H) (hD : va_D A (bbW h a dI dJ vIs (nI N) (nI G) vSo vSc vLe fNu fCo fIx fNe fDi fBe fCr fCw fDo fCh fNx)) (hS : va_S A H0 H locs) (hA : ∀ q, H0.size ≤ q → A q) (hR : rm_b_keep.frames + 1 ≤ R.frames ∧ 8 + (4 + 11) + rm_b_keep.locals ≤ R.locals) (hl : ls.size = nL) (hW : (rest.map fun v => v.category).sum ≤ 8) (hI : bbI G N nr ds du cr fNu fCo fNe fDi fCr) (hdg : decode cc pc = .ok (.invokevirtual 121, 3)) (kk : ∀  (H1 : Heap) (locs1 : List Loc), (True) → va_P D vwCl (bbW h a dI dJ vIs (nI N) (nI G) vSo (vSc + nI 1) (if vSc = 0 then x else vLe) fNu fCo fIx fNe fDi fBe fCr (kcw x G 0 fCw) fDo fCh fNx) H1 → va_D A (bbW h a dI dJ vIs (nI N) (nI G) vSo (vSc + nI 1) (if vSc = 0 then x else vLe) fNu fCo fIx fNe fDi fBe fCr (kcw x G 0 fCw) fDo fCh fNx) → va_S A H0 H1 locs1 → W p l e R s m args below meth c H1 locs1 0 0 Q (F0 m (pc + 3) ls rest)) : W p l e R s m args below meth c H locs 0 0 Q (F0 m pc ls (.int x :: .ref h :: rest)) := km_v hC (t_b_keep l D h a dI dJ vIs vSo vSc vLe fNu fCo fIx fNe fDi fBe fCr fCw fDo fCh fNx G N nr ds du cr x hI H.size) (cwV 1 hC.2.2.2.2 (lw_V q175 q177 qs11 q24 q178) rfl rfl rfl (by decide +kernel) hR) rfl rfl rfl hl rfl hW ⟨Nat.zero_le _, Nat.zero_le _⟩ hP hK hD hS hA hdg (fun u H1 locs1 a1 a2 a3 a4 => kk  H1 locs1 a1 a2 a3 a4)
abbrev rm_b_guess : Room := { frames := 4, cells := 0, slots := 0, locals := 102 }
set_option maxHeartbeats 4000000 in
set_option maxRecDepth 100000 in
/-- guess -/
theorem t_b_guess (l : Launch) (D : va_G) (h : Nat) (a : Nat → Nat) (dI dJ : ClassId) (vIs : Int32) (vSo : Int32) (vSc : Int32) (vLe : Int32) (fNu : Nat → Int32) (fCo : Nat → Int32) (fIx : Nat → Int32) (fNe : Nat → Int32) (fDi : Nat → Int32) (fBe : Nat → Int64) (fCr : Nat → Int32) (fCw : Nat → Int32) (fDo : Nat → Int32) (fCh : Nat → Int32) (fNx : Nat → Int32) (G N : Nat) (nr ds du : Nat → Nat) (cr : Nat → Nat → Bool) (d g b : Nat) (hI : bbI G N nr ds du cr fNu fCo fNe fDi fCr) (hd : d ≤ 8) (hg1 : fCh d = nI g) (hg2 : g < G) (hb1 : fNx d = nI b) (hb2 : b ≤ 3) (sz : Nat) : Met l yX0_guess (ws_ yX0_guess cX0_guess 6 (some .boolean)) rm_b_guess (cP D (kB dI dJ) (bbW h a dI dJ vIs (nI N) (nI G) vSo vSc vLe fNu fCo fIx fNe fDi fBe fCr fCw fDo fCh fNx) sz [.ref h, .int (nI d)]) (cQi D (kB dI dJ) (bbW h a dI dJ vIs (nI N) (nI G) vSo vSc vLe fNu fCo fIx fNe fDi fBe fCr fCw fDo fCh fNx) sz (fun (r : Int32) (u : (Nat → Int32) × (Nat → Int32)) => r = bo (gsR G N nr ds du cr (fDo d) g b) ∧ u.1 = gsN fNx d b ∧ u.2 = gsD G N nr ds du cr fDo d g b) (fun (u : (Nat → Int32) × (Nat → Int32)) => bbW h a dI dJ vIs (nI N) (nI G) vSo vSc vLe fNu fCo fIx fNe fDi fBe fCr fCw u.2 fCh u.1)) 0 0 (va_A (bbW h a dI dJ vIs (nI N) (nI G) vSo vSc vLe fNu fCo fIx fNe fDi fBe fCr fCw fDo fCh fNx) sz) := by
  refine en_z (by decide) (Nat.le_of_ble_eq_true rfl) ?_
  intro p e s m below meth c ls Q A hC hP hK hD hA hS hl hret
  have hC : CallFix p m c cX0_guess 6 s _ lw_all RX0 := hC
  have hx := hC.1
  have hb := hC.2.1
  have hl : lv_has ls 6 [(0, .ref h), (1, .int (nI d))] := hl
  have hG : G ≤ 8 := hI.1
  have hN : N ≤ 7 := hI.2.1
  refine lv_aload_n hx hb dX0_guess_0 rfl (lv_at hl 0 rfl) ?_
  refine g0_nextBridges hC hK hP dX0_guess_1 ?_
  refine lv_iload_n hx hb dX0_guess_4 rfl (lv_at hl 1 rfl) ?_
  refine l0_nextBridges hC hK hP (by omega) dX0_guess_5 ?_
  refine ct_i (y := nI b) (hb1) ?_
  refine lv_istore_n (lv' := [(2, .int (nI b)), (0, .ref h), (1, .int (nI d))]) hx hb dX0_guess_6 rfl hl (by decide) rfl (fun ls hl => ?_)
  refine lv_iload_n hx hb dX0_guess_7 rfl (lv_at hl 0 rfl) ?_
  refine lv_iconst (v := nI 2) hx hb dX0_guess_8 (by decide) ?_
  refine nb_le (tgt := 14) hx hb dX0_guess_9 (by decide) (by omega) (by omega) (fun c1 => ?_) (fun c1 => ?_)
  · have eN : gsN fNx d b = upd fNx d (nI (b + 1)) := by rw [gsN, if_neg (by omega)]
    refine lv_aload_n hx hb dX0_guess_14 rfl (lv_at hl 1 rfl) ?_
    refine g0_nextBridges hC hK hP dX0_guess_15 ?_
    refine lv_iload_n hx hb dX0_guess_18 rfl (lv_at hl 2 rfl) ?_
    refine lv_iload_n hx hb dX0_guess_19 rfl (lv_at hl 0 rfl) ?_
    refine lv_iconst (v := nI 1) hx hb dX0_guess_20 (by decide) ?_
    refine nn_add hx hb dX0_guess_21 ?_
    refine s0_nextBridges hC hK hP hD hS (by omega) dX0_guess_22 (fun H locs hP hD hS => ?_)
    refine lv_aload_n hx hb dX0_guess_23 rfl (lv_at hl 1 rfl) ?_
    refine g0_choiceGap hC hK hP dX0_guess_24 ?_
    refine lv_iload_n hx hb dX0_guess_27 rfl (lv_at hl 2 rfl) ?_
    refine l0_choiceGap hC hK hP (by omega) dX0_guess_28 ?_
    refine ct_i (y := nI g) (hg1) ?_
    refine lv_istore_n (lv' := [(3, .int (nI g)), (2, .int (nI b)), (0, .ref h), (1, .int (nI d))]) hx hb dX0_guess_29 rfl hl (by decide) rfl (fun ls hl => ?_)
    refine lv_aload_n hx hb dX0_guess_30 rfl (lv_at hl 2 rfl) ?_
    refine g0_domains hC hK hP dX0_guess_31 ?_
    refine lv_iload_n hx hb dX0_guess_34 rfl (lv_at hl 3 rfl) ?_
    refine l0_domains hC hK hP (by omega) dX0_guess_35 ?_
    refine lv_iload_n hx hb dX0_guess_36 rfl (lv_at hl 0 rfl) ?_
    refine k_b_domainOf  hC hK (by decide) hl.1 (Nat.le_of_ble_eq_true rfl) (by omega) dX0_guess_37 ?_
    refine lv_iload_n hx hb dX0_guess_40 rfl (lv_at hl 1 rfl) ?_
    refine lv_iushr (v := ((dm (fDo d) g).toUInt32 >>> ((nI b).toUInt32 &&& Int32.toUInt32 31)).toInt32) hx hb dX0_guess_41 rfl ?_
    refine lv_iconst (v := nI 1) hx hb dX0_guess_42 (by decide) ?_
    refine lv_iand hx hb dX0_guess_43 ?_
    refine ct_i (y := bo (pb (fDo d) g b)) ((cb_bit _ (by omega)).trans (congrArg bo (dm_bit _ _ (by omega)))) ?_
    refine bz_ne (tgt := 49) hx hb dX0_guess_44 (by decide) (fun c2 => ?_) (fun c2 => ?_)
    · refine lv_aload_n hx hb dX0_guess_49 rfl (lv_at hl 2 rfl) ?_
      refine g0_domains hC hK hP dX0_guess_50 ?_
      refine lv_iload_n hx hb dX0_guess_53 rfl (lv_at hl 3 rfl) ?_
      refine l0_domains hC hK hP (by omega) dX0_guess_54 ?_
      refine lv_iload_n hx hb dX0_guess_55 rfl (lv_at hl 0 rfl) ?_
      refine lv_iconst (v := nI 1) hx hb dX0_guess_56 (by decide) ?_
      refine lv_iload_n hx hb dX0_guess_57 rfl (lv_at hl 1 rfl) ?_
      refine lv_ishl hx hb dX0_guess_58 ?_
      refine k_b_restrict  hC hK (by decide) hl.1 (Nat.le_of_ble_eq_true rfl)  dX0_guess_59 ?_
      refine lv_istore (lv' := [(4, .int (rs (fDo d) g (nI 1 <<< (nI b &&& 31)))), (3, .int (nI g)), (2, .int (nI b)), (0, .ref h), (1, .int (nI d))]) hx hb dX0_guess_62 hl (by decide) rfl (fun ls hl => ?_)
      refine lv_aload_n hx hb dX0_guess_64 rfl (lv_at hl 3 rfl) ?_
      refine lv_iload hx hb dX0_guess_65 (lv_at hl 0 rfl) ?_
      refine k_b_narrow  hC hK hP (by decide) hl.1 (Nat.le_of_ble_eq_true rfl) hI dX0_guess_67 ?_
      refine lv_istore (lv' := [(5, .int (nw G N nr ds du cr 30 (rs (fDo d) g (nI 1 <<< (nI b &&& 31))))), (4, .int (rs (fDo d) g (nI 1 <<< (nI b &&& 31)))), (3, .int (nI g)), (2, .int (nI b)), (0, .ref h), (1, .int (nI d))]) hx hb dX0_guess_70 hl (by decide) rfl (fun ls hl => ?_)
      refine lv_iload hx hb dX0_guess_72 (lv_at hl 0 rfl) ?_
      refine lv_if_ge (tgt := 79) hx hb dX0_guess_74 (by decide) (fun c3 => ?_) (fun c3 => ?_)
      · have eR : gsR G N nr ds du cr (fDo d) g b = true := by have h9 : 0 ≤ gsX G N nr ds du cr (fDo d) g b := c3; simp [gsR, c2, h9, c1]
        refine lv_aload_n hx hb dX0_guess_79 rfl (lv_at hl 4 rfl) ?_
        refine g0_domains hC hK hP dX0_guess_80 ?_
        refine lv_iload_n hx hb dX0_guess_83 rfl (lv_at hl 5 rfl) ?_
        refine lv_iconst (v := nI 1) hx hb dX0_guess_84 (by decide) ?_
        refine nn_add hx hb dX0_guess_85 ?_
        refine lv_iload hx hb dX0_guess_86 (lv_at hl 0 rfl) ?_
        refine s0_domains hC hK hP hD hS (by omega) dX0_guess_88 (fun H locs hP hD hS => ?_)
        refine lv_iconst (v := nI 1) hx hb dX0_guess_89 (by decide) ?_
        exact hret _ _ 90 _ true (upd fNx d (nI (b + 1)), upd fDo (d + 1) (gsX G N nr ds du cr (fDo d) g b)) dX0_guess_90 (⟨by rw [eR], eN.symm, by rw [gsD, eR, if_pos rfl]⟩) hP hD hS
      · have eR : gsR G N nr ds du cr (fDo d) g b = false := by have h9 : ¬ 0 ≤ gsX G N nr ds du cr (fDo d) g b := c3; simp [gsR, h9]
        refine lv_iconst (v := nI 0) hx hb dX0_guess_77 (by decide) ?_
        exact hret _ _ 78 _ false (upd fNx d (nI (b + 1)), fDo) dX0_guess_78 (⟨by rw [eR], eN.symm, by rw [gsD, eR]; rfl⟩) hP hD hS
    · have eR : gsR G N nr ds du cr (fDo d) g b = false := by simp only [gsR, c2, Bool.false_and, Bool.and_false]
      refine lv_iconst (v := nI 0) hx hb dX0_guess_47 (by decide) ?_
      exact hret _ _ 48 _ false (upd fNx d (nI (b + 1)), fDo) dX0_guess_48 (⟨by rw [eR], eN.symm, by rw [gsD, eR]; rfl⟩) hP hD hS
  · refine lv_iconst (v := nI 0) hx hb dX0_guess_12 (by decide) ?_
    have eR : gsR G N nr ds du cr (fDo d) g b = false := by simp [gsR]; omega
    have eN : gsN fNx d b = fNx := by rw [gsN, if_pos (by omega)]
    exact hret _ _ 13 _ false (fNx, fDo) dX0_guess_13 (⟨by rw [eR], eN.symm, by rw [gsD, eR]; rfl⟩) hP hD hS
theorem k_b_guess {p : Program} {l : Launch} {e : Env} {R : Room} {s : State} {m : MethodId} {args : Array Value} {below : List Frame} {meth : Method} {c : Code} {H : Heap} {locs : List Loc} {Q : State → Prop} {cc : ByteArray} {pc nL : Nat} {ls : Array Slot} {rest : List Value} {D : va_G} {A : Nat → Prop} {H0 : Heap} {h : Nat} {a : Nat → Nat} {dI dJ : ClassId} {vIs : Int32} {vSo : Int32} {vSc : Int32} {vLe : Int32} {fNu : Nat → Int32} {fCo : Nat → Int32} {fIx : Nat → Int32} {fNe : Nat → Int32} {fDi : Nat → Int32} {fBe : Nat → Int64} {fCr : Nat → Int32} {fCw : Nat → Int32} {fDo : Nat → Int32} {fCh : Nat → Int32} {fNx : Nat → Int32} {G N : Nat} {nr ds du : Nat → Nat} {cr : Nat → Nat → Bool} {d g b : Nat} (hC : CallFix p m c cc nL s args lw_all RX0) (hK : va_K D vwCl (kB dI dJ) s) (hP : va_P D vwCl (bbW h a dI dJ vIs (nI N) (nI G) vSo vSc vLe fNu fCo fIx fNe fDi fBe fCr fCw fDo fCh fNx) H) (hD : va_D A (bbW h a dI dJ vIs (nI N) (nI G) vSo vSc vLe fNu fCo fIx fNe fDi fBe fCr fCw fDo fCh fNx)) (hS : va_S A H0 H locs) (hA : ∀ q, H0.size ≤ q → A q) (hR : rm_b_guess.frames + 1 ≤ R.frames ∧ 8 + (6 + 11) + rm_b_guess.locals ≤ R.locals) (hl : ls.size = nL) (hW : (rest.map fun v => v.category).sum ≤ 8) (hI : bbI G N nr ds du cr fNu fCo fNe fDi fCr) (hd : d ≤ 8) (hg1 : fCh d = nI g) (hg2 : g < G) (hb1 : fNx d = nI b) (hb2 : b ≤ 3) (hdg : decode cc pc = .ok (.invokevirtual 125, 3)) (kk : ∀ (r : Int32) (nx1 : Nat → Int32) (do1 : Nat → Int32) (H1 : Heap) (locs1 : List Loc), (r = bo (gsR G N nr ds du cr (fDo d) g b) ∧ nx1 = gsN fNx d b ∧ do1 = gsD G N nr ds du cr fDo d g b) → va_P D vwCl (bbW h a dI dJ vIs (nI N) (nI G) vSo vSc vLe fNu fCo fIx fNe fDi fBe fCr fCw do1 fCh nx1) H1 → va_D A (bbW h a dI dJ vIs (nI N) (nI G) vSo vSc vLe fNu fCo fIx fNe fDi fBe fCr fCw do1 fCh nx1) → va_S A H0 H1 locs1 → W p l e R s m args below meth c H1 locs1 0 0 Q (F0 m (pc + 3) ls (.int r :: rest))) : W p l e R s m args below meth c H locs 0 0 Q (F0 m pc ls (.int (nI d) :: .ref h :: rest)) := km_i hC (t_b_guess l D h a dI dJ vIs vSo vSc vLe fNu fCo fIx fNe fDi fBe fCr fCw fDo fCh fNx G N nr ds du cr d g b hI hd hg1 hg2 hb1 hb2 H.size) (cwV 1 hC.2.2.2.2 (lw_V q179 q181 qs12 q24 q182) rfl rfl rfl (by decide +kernel) hR) rfl rfl rfl hl rfl hW ⟨Nat.zero_le _, Nat.zero_le _⟩ hP hK hD hS hA hdg (fun r u H1 locs1 a1 a2 a3 a4 => kk r u.1 u.2 H1 locs1 a1 a2 a3 a4)
abbrev rm_b_solve : Room := { frames := 5, cells := 0, slots := 0, locals := 127 }
set_option maxHeartbeats 4000000 in
set_option maxRecDepth 100000 in
/-- solve -/
theorem t_b_solve (l : Launch) (D : va_G) (h : Nat) (a : Nat → Nat) (dI dJ : ClassId) (vIs : Int32) (vSc : Int32) (vLe : Int32) (fNu : Nat → Int32) (fCo : Nat → Int32) (fIx : Nat → Int32) (fNe : Nat → Int32) (fDi : Nat → Int32) (fBe : Nat → Int64) (fCr : Nat → Int32) (fCw : Nat → Int32) (fDo : Nat → Int32) (fCh : Nat → Int32) (fNx : Nat → Int32) (G N : Nat) (nr ds du : Nat → Nat) (cr : Nat → Nat → Bool) (so : Bool) (Inv : Sg → Prop) (Rt : Int32 → Int32 → (Nat → Int32) → Prop) (hI : bbI G N nr ds du cr fNu fCo fNe fDi fCr) (hok : okS G N nr ds du cr Inv) (hi0 : Inv (st0 G N nr ds du cr fDo fCh fNx fCw)) (hs : so = true → Rt vSc vLe fCw) (hr : so = false → Rt (run G N nr ds du cr 60000 (st0 G N nr ds du cr fDo fCh fNx fCw)).2.2.2.2.2.2.1 (run G N nr ds du cr 60000 (st0 G N nr ds du cr fDo fCh fNx fCw)).2.2.2.2.2.2.2 (run G N nr ds du cr 60000 (st0 G N nr ds du cr fDo fCh fNx fCw)).2.2.2.2.2.1) (sz : Nat) : Met l yX0_solve (ws_ yX0_solve cX0_solve 5 none) rm_b_solve (cP D (kB dI dJ) (bbW h a dI dJ vIs (nI N) (nI G) (bo so) vSc vLe fNu fCo fIx fNe fDi fBe fCr fCw fDo fCh fNx) sz [.ref h]) (cQv D (kB dI dJ) (bbW h a dI dJ vIs (nI N) (nI G) (bo so) vSc vLe fNu fCo fIx fNe fDi fBe fCr fCw fDo fCh fNx) sz (fun (u : (Int32) × (Int32) × (Nat → Int32) × (Nat → Int32) × (Nat → Int32) × (Nat → Int32)) => Rt u.1 u.2.1 u.2.2.1) (fun (u : (Int32) × (Int32) × (Nat → Int32) × (Nat → Int32) × (Nat → Int32) × (Nat → Int32)) => bbW h a dI dJ vIs (nI N) (nI G) (bo true) u.1 u.2.1 fNu fCo fIx fNe fDi fBe fCr u.2.2.1 u.2.2.2.1 u.2.2.2.2.1 u.2.2.2.2.2)) 0 0 (va_A (bbW h a dI dJ vIs (nI N) (nI G) (bo so) vSc vLe fNu fCo fIx fNe fDi fBe fCr fCw fDo fCh fNx) sz) := by
  refine en_v (by decide) (Nat.le_of_ble_eq_true rfl) ?_
  intro p e s m below meth c ls Q A hC hP hK hD hA hS hl hret
  have hC : CallFix p m c cX0_solve 5 s _ lw_all RX0 := hC
  have hx := hC.1
  have hb := hC.2.1
  have hl : lv_has ls 5 [(0, .ref h)] := hl
  have hG : G ≤ 8 := hI.1
  have hN : N ≤ 7 := hI.2.1
  refine lv_aload_n hx hb dX0_solve_0 rfl (lv_at hl 0 rfl) ?_
  refine g0_solved hC hK hP dX0_solve_1 ?_
  obtain ⟨start, hst⟩ : ∃ y : Int32, (nI 1 <<< (nI (3 * G) &&& 31)) - nI 1 = y := ⟨_, rfl⟩
  refine bz_eq (tgt := 8) hx hb dX0_solve_4 (by decide) (fun c1 => ?_) (fun c1 => ?_)
  · have hr := hr c1
    generalize hz : run G N nr ds du cr 60000 (st0 G N nr ds du cr fDo fCh fNx fCw) = z at hr
    have lp : ∀ (n : Nat) (k : Nat) (dd : Nat) (en : Bool) (dom ch nx cw : Nat → Int32) (sc le : Int32) (ls : Array Slot), (k ≤ 60000) → (Inv (dd, en, dom, ch, nx, cw, sc, le)) → (run G N nr ds du cr (60000 - k) (dd, en, dom, ch, nx, cw, sc, le) = z) → 60000 < k + n → ∀ (H : Heap) (locs : List Loc), va_P D vwCl (bbW h a dI dJ vIs (nI N) (nI G) (bo true) sc le fNu fCo fIx fNe fDi fBe fCr cw dom ch nx) H → va_D A (bbW h a dI dJ vIs (nI N) (nI G) (bo true) sc le fNu fCo fIx fNe fDi fBe fCr cw dom ch nx) → va_S A s.heap H locs → lv_has ls 5 [(0, .ref h), (1, .int start), (2, .int (dpI dd)), (3, .int (bo en)), (4, .int (nI k))] → W p l e rm_b_solve s m ([.ref h] : List Value).toArray below meth c H locs 0 0 Q (F0 m 86 ls []) := by
      intro n
      induction n with
      | zero =>
        intro k dd en dom ch nx cw sc le ls hk hinv hrun hfu
        exact absurd hfu (by omega)
      | succ n ih =>
        intro k dd en dom ch nx cw sc le ls hk hinv hrun hfu H locs hP hD hS hl
        cases dd with
        | zero =>
          rw [run_0] at hrun
          subst hrun
          have hl : lv_has ls 5 [(0, .ref h), (1, .int start), (2, .int (-1)), (3, .int (bo en)), (4, .int (nI k))] := hl
          refine lv_iload hx hb dX0_solve_86 (lv_at hl 4 rfl) ?_
          refine lv_ldc (v := 60000) hx hb hC.2.2.2.1 (hC.2.2.2.2 _ q170) dX0_solve_88 ?_
          refine ct_i (y := nI 60000) (rfl) ?_
          refine nb_ge (tgt := 189) hx hb dX0_solve_90 (by decide) (by omega) (by omega) (fun c2 => ?_) (fun c2 => ?_)
          · exact hret _ _ 189 _ (sc, le, cw, dom, ch, nx) dX0_solve_189 (hr) hP hD hS
          · refine lv_iload_n hx hb dX0_solve_93 rfl (lv_at hl 2 rfl) ?_
            refine lv_if_lt (tgt := 189) hx hb dX0_solve_94 (by decide) (fun c3 => ?_) (fun c3 => ?_)
            · exact hret _ _ 189 _ (sc, le, cw, dom, ch, nx) dX0_solve_189 (hr) hP hD hS
            · exact absurd (by decide) c3
        | succ d =>
          obtain ⟨hd8, hgb⟩ := hok.2 _ _ _ _ _ _ _ _ hinv
          have hl : lv_has ls 5 [(0, .ref h), (1, .int start), (2, .int (nI d)), (3, .int (bo en)), (4, .int (nI k))] := hl
          refine lv_iload hx hb dX0_solve_86 (lv_at hl 4 rfl) ?_
          refine lv_ldc (v := 60000) hx hb hC.2.2.2.1 (hC.2.2.2.2 _ q170) dX0_solve_88 ?_
          refine ct_i (y := nI 60000) (rfl) ?_
          refine nb_ge (tgt := 189) hx hb dX0_solve_90 (by decide) (by omega) (by omega) (fun c4 => ?_) (fun c4 => ?_)
          · rw [show 60000 - k = 0 by omega, run] at hrun
            subst hrun
            exact hret _ _ 189 _ (sc, le, cw, dom, ch, nx) dX0_solve_189 (hr) hP hD hS
          · refine lv_iload_n hx hb dX0_solve_93 rfl (lv_at hl 2 rfl) ?_
            refine nz_lt (tgt := 189) hx hb dX0_solve_94 (by decide) (by omega) ?_
            refine lv_iload_n hx hb dX0_solve_97 rfl (lv_at hl 3 rfl) ?_
            refine bz_eq (tgt := 151) hx hb dX0_solve_98 (by decide) (fun c6 => ?_) (fun c6 => ?_)
            · subst c6
              obtain ⟨g, b, hg1, hg2, hb1, hb2⟩ := hgb rfl
              have eg : (ch d).toNatClampNeg = g := by rw [hg1]; exact nI_clamp (by omega)
              have eb : (nx d).toNatClampNeg = b := by rw [hb1]; exact nI_clamp (by omega)
              refine lv_aload_n hx hb dX0_solve_151 rfl (lv_at hl 0 rfl) ?_
              refine lv_iload_n hx hb dX0_solve_152 rfl (lv_at hl 2 rfl) ?_
              refine k_b_guess (g := g) (b := b) hC hK hP hD hS hA (by decide) hl.1 (Nat.le_of_ble_eq_true rfl) hI hd8 hg1 hg2 hb1 hb2 dX0_solve_153 (fun r9 nx1 do1 H locs ⟨hr9, hn1, hd1⟩ hP hD hS => ?_)
              refine ct_i (y := bo (gsR G N nr ds du cr (dom d) g b)) (hr9) ?_
              subst hn1
              subst hd1
              refine lv_istore_n (lv' := [(3, .int (bo (gsR G N nr ds du cr (dom d) g b))), (0, .ref h), (1, .int start), (2, .int (nI d)), (4, .int (nI k))]) hx hb dX0_solve_156 rfl hl (by decide) rfl (fun ls hl => ?_)
              refine lv_iload_n hx hb dX0_solve_157 rfl (lv_at hl 3 rfl) ?_
              refine lv_iload_n hx hb dX0_solve_158 rfl (lv_at hl 0 rfl) ?_
              refine bz_eq (tgt := 166) hx hb dX0_solve_159 (by decide) (fun c7 => ?_) (fun c7 => ?_)
              · have eD : gsD G N nr ds du cr dom d g b = dom := by rw [gsD, c7]; rfl
                rw [eD] at hP hD
                rw [c7] at hl
                refine lv_aload_n hx hb dX0_solve_166 rfl (lv_at hl 1 rfl) ?_
                refine g0_nextBridges hC hK hP dX0_solve_167 ?_
                refine lv_iload_n hx hb dX0_solve_170 rfl (lv_at hl 3 rfl) ?_
                refine l0_nextBridges hC hK hP (by omega) dX0_solve_171 ?_
                refine lv_iconst (v := nI 2) hx hb dX0_solve_172 (by decide) ?_
                refine lv_icmp_le (tgt := 180) hx hb dX0_solve_173 (by decide) (fun c8 => ?_) (fun c8 => ?_)
                · have hst := stp_f3 (cw := cw) (sc := sc) (le := le) eg eb c7 (Int32.not_lt.mpr c8)
                  have hinv1 := hok.1 _ hinv
                  rw [hst] at hinv1
                  have hrun1 := run_s c4 hrun hst
                  refine lv_iconst (v := nI 0) hx hb dX0_solve_180 (by decide) ?_
                  refine nn_add hx hb dX0_solve_181 ?_
                  refine lv_istore_n (lv' := [(2, .int (nI (d + 0))), (3, .int (bo false)), (0, .ref h), (1, .int start), (4, .int (nI k))]) hx hb dX0_solve_182 rfl hl (by decide) rfl (fun ls hl => ?_)
                  refine lv_iinc (v := nI (k + 1)) (lv' := [(4, .int (nI (k + 1))), (2, .int (nI (d + 0))), (3, .int (bo false)), (0, .ref h), (1, .int start)]) hx hb dX0_solve_183 hl (k := 4) rfl (nI_1 _) (by decide) rfl (fun ls hl => ?_)
                  refine lv_goto (tgt := 86) hx hb dX0_solve_186 (by decide) ?_
                  exact ih (k + 1) (d + 1) false dom ch (gsN nx d b) cw sc le _ (by omega) hinv1 hrun1 (by omega) _ _ hP hD hS (lv_sub hl [3, 4, 1, 2, 0] rfl)
                · have hst := stp_f2 (cw := cw) (sc := sc) (le := le) eg eb c7 (Int32.not_le.mp c8)
                  have hinv1 := hok.1 _ hinv
                  rw [hst] at hinv1
                  have hrun1 := run_s c4 hrun hst
                  refine lv_iconst (v := (-1)) hx hb dX0_solve_176 (by decide) ?_
                  refine lv_goto (tgt := 181) hx hb dX0_solve_177 (by decide) ?_
                  refine lv_iadd hx hb dX0_solve_181 ?_
                  refine ct_i (y := dpI d) (dpI_m1 d) ?_
                  refine lv_istore_n (lv' := [(2, .int (dpI d)), (3, .int (bo false)), (0, .ref h), (1, .int start), (4, .int (nI k))]) hx hb dX0_solve_182 rfl hl (by decide) rfl (fun ls hl => ?_)
                  refine lv_iinc (v := nI (k + 1)) (lv' := [(4, .int (nI (k + 1))), (2, .int (dpI d)), (3, .int (bo false)), (0, .ref h), (1, .int start)]) hx hb dX0_solve_183 hl (k := 4) rfl (nI_1 _) (by decide) rfl (fun ls hl => ?_)
                  refine lv_goto (tgt := 86) hx hb dX0_solve_186 (by decide) ?_
                  exact ih (k + 1) d false dom ch (gsN nx d b) cw sc le _ (by omega) hinv1 hrun1 (by omega) _ _ hP hD hS (lv_sub hl [3, 4, 1, 2, 0] rfl)
              · rw [c7] at hl
                have hst := stp_f1 (cw := cw) (sc := sc) (le := le) eg eb c7
                have hinv1 := hok.1 _ hinv
                rw [hst] at hinv1
                have hrun1 := run_s c4 hrun hst
                refine lv_iconst (v := nI 1) hx hb dX0_solve_162 (by decide) ?_
                refine lv_goto (tgt := 181) hx hb dX0_solve_163 (by decide) ?_
                refine nn_add hx hb dX0_solve_181 ?_
                refine lv_istore_n (lv' := [(2, .int (nI (d + 1))), (3, .int (bo true)), (0, .ref h), (1, .int start), (4, .int (nI k))]) hx hb dX0_solve_182 rfl hl (by decide) rfl (fun ls hl => ?_)
                refine lv_iinc (v := nI (k + 1)) (lv' := [(4, .int (nI (k + 1))), (2, .int (nI (d + 1))), (3, .int (bo true)), (0, .ref h), (1, .int start)]) hx hb dX0_solve_183 hl (k := 4) rfl (nI_1 _) (by decide) rfl (fun ls hl => ?_)
                refine lv_goto (tgt := 86) hx hb dX0_solve_186 (by decide) ?_
                exact ih (k + 1) (d + 2) true (gsD G N nr ds du cr dom d g b) ch (gsN nx d b) cw sc le _ (by omega) hinv1 hrun1 (by omega) _ _ hP hD hS (lv_sub hl [3, 4, 1, 2, 0] rfl)
            · subst c6
              refine lv_aload_n hx hb dX0_solve_101 rfl (lv_at hl 0 rfl) ?_
              refine g0_choiceGap hC hK hP dX0_solve_102 ?_
              refine lv_iload_n hx hb dX0_solve_105 rfl (lv_at hl 2 rfl) ?_
              refine lv_aload_n hx hb dX0_solve_106 rfl (lv_at hl 0 rfl) ?_
              refine lv_aload_n hx hb dX0_solve_107 rfl (lv_at hl 0 rfl) ?_
              refine g0_domains hC hK hP dX0_solve_108 ?_
              refine lv_iload_n hx hb dX0_solve_111 rfl (lv_at hl 2 rfl) ?_
              refine l0_domains hC hK hP (by omega) dX0_solve_112 ?_
              refine k_b_firstOpen  hC hK hP (by decide) hl.1 (Nat.le_of_ble_eq_true rfl) hI dX0_solve_113 ?_
              refine s0_choiceGap hC hK hP hD hS (by omega) dX0_solve_116 (fun H locs hP hD hS => ?_)
              refine lv_aload_n hx hb dX0_solve_117 rfl (lv_at hl 0 rfl) ?_
              refine g0_nextBridges hC hK hP dX0_solve_118 ?_
              refine lv_iload_n hx hb dX0_solve_121 rfl (lv_at hl 2 rfl) ?_
              refine lv_iconst (v := nI 0) hx hb dX0_solve_122 (by decide) ?_
              refine s0_nextBridges hC hK hP hD hS (by omega) dX0_solve_123 (fun H locs hP hD hS => ?_)
              refine lv_iconst (v := nI 0) hx hb dX0_solve_124 (by decide) ?_
              refine ct_i (y := bo false) (rfl) ?_
              refine lv_istore_n (lv' := [(3, .int (bo false)), (0, .ref h), (1, .int start), (2, .int (nI d)), (4, .int (nI k))]) hx hb dX0_solve_125 rfl hl (by decide) rfl (fun ls hl => ?_)
              refine lv_aload_n hx hb dX0_solve_126 rfl (lv_at hl 1 rfl) ?_
              refine g0_choiceGap hC hK hP dX0_solve_127 ?_
              refine lv_iload_n hx hb dX0_solve_130 rfl (lv_at hl 3 rfl) ?_
              refine l0_choiceGap hC hK hP (by omega) dX0_solve_131 ?_
              refine ct_i (y := fo (dom d) G 0) (pk_us) ?_
              refine lv_if_ge (tgt := 183) hx hb dX0_solve_132 (by decide) (fun c9 => ?_) (fun c9 => ?_)
              · have hst := stp_t1 (G := G) (N := N) (nr := nr) (ds := ds) (du := du) (cr := cr) (ch := ch) (nx := nx) (cw := cw) (sc := sc) (le := le) c9
                have hinv1 := hok.1 _ hinv
                rw [hst] at hinv1
                have hrun1 := run_s c4 hrun hst
                refine lv_iinc (v := nI (k + 1)) (lv' := [(4, .int (nI (k + 1))), (3, .int (bo false)), (0, .ref h), (1, .int start), (2, .int (nI d))]) hx hb dX0_solve_183 hl (k := 4) rfl (nI_1 _) (by decide) rfl (fun ls hl => ?_)
                refine lv_goto (tgt := 86) hx hb dX0_solve_186 (by decide) ?_
                exact ih (k + 1) (d + 1) false dom (upd ch d (fo (dom d) G 0)) (upd nx d (nI 0)) cw sc le _ (by omega) hinv1 hrun1 (by omega) _ _ hP hD hS (lv_sub hl [2, 3, 4, 1, 0] rfl)
              · have hst := stp_t2 (G := G) (N := N) (nr := nr) (ds := ds) (du := du) (cr := cr) (ch := ch) (nx := nx) (cw := cw) (sc := sc) (le := le) c9
                have hinv1 := hok.1 _ hinv
                rw [hst] at hinv1
                have hrun1 := run_s c4 hrun hst
                refine lv_aload_n hx hb dX0_solve_135 rfl (lv_at hl 1 rfl) ?_
                refine lv_aload_n hx hb dX0_solve_136 rfl (lv_at hl 1 rfl) ?_
                refine g0_domains hC hK hP dX0_solve_137 ?_
                refine lv_iload_n hx hb dX0_solve_140 rfl (lv_at hl 3 rfl) ?_
                refine l0_domains hC hK hP (by omega) dX0_solve_141 ?_
                refine k_b_keep  hC hK hP hD hS hA (by decide) hl.1 (Nat.le_of_ble_eq_true rfl) hI dX0_solve_142 (fun  H locs _ hP hD hS => ?_)
                refine lv_iinc (v := dpI d) (lv' := [(2, .int (dpI d)), (3, .int (bo false)), (0, .ref h), (1, .int start), (4, .int (nI k))]) hx hb dX0_solve_145 hl (k := 3) rfl (dpI_m1 d) (by decide) rfl (fun ls hl => ?_)
                refine lv_goto (tgt := 183) hx hb dX0_solve_148 (by decide) ?_
                refine lv_iinc (v := nI (k + 1)) (lv' := [(4, .int (nI (k + 1))), (2, .int (dpI d)), (3, .int (bo false)), (0, .ref h), (1, .int start)]) hx hb dX0_solve_183 hl (k := 4) rfl (nI_1 _) (by decide) rfl (fun ls hl => ?_)
                refine lv_goto (tgt := 86) hx hb dX0_solve_186 (by decide) ?_
                exact ih (k + 1) d false dom (upd ch d (fo (dom d) G 0)) (upd nx d (nI 0)) (kcw (dom d) G 0 cw) (sc + nI 1) (if sc = 0 then dom d else le) _ (by omega) hinv1 hrun1 (by omega) _ _ hP hD hS (lv_sub hl [3, 4, 1, 2, 0] rfl)
    have lp0 : ∀ (n : Nat) (k : Nat) (ls : Array Slot), (k ≤ 24) → 24 < k + n → ∀ (H : Heap) (locs : List Loc), va_P D vwCl (bbW h a dI dJ vIs (nI N) (nI G) (bo true) (nI 0) (nI 0) fNu fCo fIx fNe fDi fBe fCr (clr k fCw) fDo fCh fNx) H → va_D A (bbW h a dI dJ vIs (nI N) (nI G) (bo true) (nI 0) (nI 0) fNu fCo fIx fNe fDi fBe fCr (clr k fCw) fDo fCh fNx) → va_S A s.heap H locs → lv_has ls 5 [(0, .ref h), (1, .int (nI k))] → W p l e rm_b_solve s m ([.ref h] : List Value).toArray below meth c H locs 0 0 Q (F0 m 25 ls []) := by
      intro n
      induction n with
      | zero =>
        intro k ls hk hfu
        exact absurd hfu (by omega)
      | succ n ih =>
        intro k ls hk hfu H locs hP hD hS hl
        refine lv_iload_n hx hb dX0_solve_25 rfl (lv_at hl 1 rfl) ?_
        refine lv_bipush (v := nI 24) hx hb dX0_solve_26 (by decide) ?_
        refine nb_ge (tgt := 44) hx hb dX0_solve_28 (by decide) (by omega) (by omega) (fun c10 => ?_) (fun c10 => ?_)
        · obtain rfl : 24 = k := by omega
          refine lv_iconst (v := nI 1) hx hb dX0_solve_44 (by decide) ?_
          refine lv_iconst (v := nI 3) hx hb dX0_solve_45 (by decide) ?_
          refine lv_aload_n hx hb dX0_solve_46 rfl (lv_at hl 0 rfl) ?_
          refine g0_gapCount hC hK hP dX0_solve_47 ?_
          refine nn_mul hx hb dX0_solve_50 ?_
          refine lv_ishl hx hb dX0_solve_51 ?_
          refine lv_iconst (v := nI 1) hx hb dX0_solve_52 (by decide) ?_
          refine lv_isub hx hb dX0_solve_53 ?_
          refine ct_i (y := start) (hst) ?_
          refine lv_istore_n (lv' := [(1, .int start), (0, .ref h)]) hx hb dX0_solve_54 rfl hl (by decide) rfl (fun ls hl => ?_)
          refine lv_aload_n hx hb dX0_solve_55 rfl (lv_at hl 1 rfl) ?_
          refine g0_domains hC hK hP dX0_solve_56 ?_
          refine lv_iconst (v := nI 0) hx hb dX0_solve_59 (by decide) ?_
          refine lv_aload_n hx hb dX0_solve_60 rfl (lv_at hl 1 rfl) ?_
          refine lv_iload_n hx hb dX0_solve_61 rfl (lv_at hl 0 rfl) ?_
          refine k_b_narrow  hC hK hP (by decide) hl.1 (Nat.le_of_ble_eq_true rfl) hI dX0_solve_62 ?_
          refine s0_domains hC hK hP hD hS (by omega) dX0_solve_65 (fun H locs hP hD hS => ?_)
          refine lv_aload_n hx hb dX0_solve_66 rfl (lv_at hl 1 rfl) ?_
          refine g0_domains hC hK hP dX0_solve_67 ?_
          refine lv_iconst (v := nI 0) hx hb dX0_solve_70 (by decide) ?_
          refine l0_domains hC hK hP (by omega) dX0_solve_71 ?_
          refine ct_i (y := nw G N nr ds du cr 30 start) (pk_us) ?_
          refine lv_if_ge (tgt := 79) hx hb dX0_solve_72 (by decide) (fun c11 => ?_) (fun c11 => ?_)
          · have e0 : st0 G N nr ds du cr fDo fCh fNx fCw = (1, true, upd fDo 0 (nw G N nr ds du cr 30 start), fCh, fNx, clr 24 fCw, nI 0, nI 0) := by rw [← hst] at c11 ⊢; simp only [st0, if_pos c11]
            refine lv_iconst (v := nI 0) hx hb dX0_solve_79 (by decide) ?_
            refine lv_istore_n (lv' := [(2, .int (nI 0)), (1, .int start), (0, .ref h)]) hx hb dX0_solve_80 rfl hl (by decide) rfl (fun ls hl => ?_)
            refine lv_iconst (v := nI 1) hx hb dX0_solve_81 (by decide) ?_
            refine ct_i (y := bo true) (rfl) ?_
            refine lv_istore_n (lv' := [(3, .int (bo true)), (2, .int (nI 0)), (1, .int start), (0, .ref h)]) hx hb dX0_solve_82 rfl hl (by decide) rfl (fun ls hl => ?_)
            refine lv_iconst (v := nI 0) hx hb dX0_solve_83 (by decide) ?_
            refine lv_istore (lv' := [(4, .int (nI 0)), (3, .int (bo true)), (2, .int (nI 0)), (1, .int start), (0, .ref h)]) hx hb dX0_solve_84 hl (by decide) rfl (fun ls hl => ?_)
            exact lp 60001 0 1 true _ _ _ _ _ _ _ (by omega) (e0 ▸ hi0) (by rw [Nat.sub_zero, ← e0]; exact hz) (by omega) _ _ hP hD hS (lv_sub hl [4, 3, 2, 1, 0] rfl)
          · have e0 : st0 G N nr ds du cr fDo fCh fNx fCw = (0, true, upd fDo 0 (nw G N nr ds du cr 30 start), fCh, fNx, clr 24 fCw, nI 0, nI 0) := by rw [← hst] at c11 ⊢; simp only [st0, if_neg c11]
            refine lv_iconst (v := (-1)) hx hb dX0_solve_75 (by decide) ?_
            refine lv_goto (tgt := 80) hx hb dX0_solve_76 (by decide) ?_
            refine lv_istore_n (lv' := [(2, .int (-1)), (1, .int start), (0, .ref h)]) hx hb dX0_solve_80 rfl hl (by decide) rfl (fun ls hl => ?_)
            refine lv_iconst (v := nI 1) hx hb dX0_solve_81 (by decide) ?_
            refine ct_i (y := bo true) (rfl) ?_
            refine lv_istore_n (lv' := [(3, .int (bo true)), (2, .int (-1)), (1, .int start), (0, .ref h)]) hx hb dX0_solve_82 rfl hl (by decide) rfl (fun ls hl => ?_)
            refine lv_iconst (v := nI 0) hx hb dX0_solve_83 (by decide) ?_
            refine lv_istore (lv' := [(4, .int (nI 0)), (3, .int (bo true)), (2, .int (-1)), (1, .int start), (0, .ref h)]) hx hb dX0_solve_84 hl (by decide) rfl (fun ls hl => ?_)
            exact lp 60001 0 0 true _ _ _ _ _ _ _ (by omega) (e0 ▸ hi0) (by rw [Nat.sub_zero, ← e0]; exact hz) (by omega) _ _ hP hD hS (lv_sub hl [4, 3, 2, 1, 0] rfl)
        · refine lv_aload_n hx hb dX0_solve_31 rfl (lv_at hl 0 rfl) ?_
          refine g0_countWith hC hK hP dX0_solve_32 ?_
          refine lv_iload_n hx hb dX0_solve_35 rfl (lv_at hl 1 rfl) ?_
          refine lv_iconst (v := nI 0) hx hb dX0_solve_36 (by decide) ?_
          refine s0_countWith hC hK hP hD hS (by omega) dX0_solve_37 (fun H locs hP hD hS => ?_)
          refine lv_iinc (v := nI (k + 1)) (lv' := [(1, .int (nI (k + 1))), (0, .ref h)]) hx hb dX0_solve_38 hl (k := 1) rfl (nI_1 _) (by decide) rfl (fun ls hl => ?_)
          refine lv_goto (tgt := 25) hx hb dX0_solve_41 (by decide) ?_
          rw [clr_s] at hP hD
          exact ih (k + 1) _ (by omega) (by omega) _ _ hP hD hS (lv_sub hl [1, 0] rfl)
    refine lv_aload_n hx hb dX0_solve_8 rfl (lv_at hl 0 rfl) ?_
    refine lv_iconst (v := nI 1) hx hb dX0_solve_9 (by decide) ?_
    refine ct_i (y := bo true) (rfl) ?_
    refine p0_solved hC hK hP hD hS rfl rfl dX0_solve_10 (fun H locs hP hD hS => ?_)
    refine lv_aload_n hx hb dX0_solve_13 rfl (lv_at hl 0 rfl) ?_
    refine lv_iconst (v := nI 0) hx hb dX0_solve_14 (by decide) ?_
    refine p0_solutionCount hC hK hP hD hS dX0_solve_15 (fun H locs hP hD hS => ?_)
    refine lv_aload_n hx hb dX0_solve_18 rfl (lv_at hl 0 rfl) ?_
    refine lv_iconst (v := nI 0) hx hb dX0_solve_19 (by decide) ?_
    refine p0_leastSolution hC hK hP hD hS dX0_solve_20 (fun H locs hP hD hS => ?_)
    refine lv_iconst (v := nI 0) hx hb dX0_solve_23 (by decide) ?_
    refine lv_istore_n (lv' := [(1, .int (nI 0)), (0, .ref h)]) hx hb dX0_solve_24 rfl hl (by decide) rfl (fun ls hl => ?_)
    rw [← clr_0 fCw] at hP hD
    exact lp0 25 0 _ (by omega) (by omega) _ _ hP hD hS (lv_sub hl [1, 0] rfl)
  · subst c1
    exact hret _ _ 7 _ (vSc, vLe, fCw, fDo, fCh, fNx) dX0_solve_7 (hs rfl) hP hD hS
theorem k_b_solve {p : Program} {l : Launch} {e : Env} {R : Room} {s : State} {m : MethodId} {args : Array Value} {below : List Frame} {meth : Method} {c : Code} {H : Heap} {locs : List Loc} {Q : State → Prop} {cc : ByteArray} {pc nL : Nat} {ls : Array Slot} {rest : List Value} {D : va_G} {A : Nat → Prop} {H0 : Heap} {h : Nat} {a : Nat → Nat} {dI dJ : ClassId} {vIs : Int32} {vSc : Int32} {vLe : Int32} {fNu : Nat → Int32} {fCo : Nat → Int32} {fIx : Nat → Int32} {fNe : Nat → Int32} {fDi : Nat → Int32} {fBe : Nat → Int64} {fCr : Nat → Int32} {fCw : Nat → Int32} {fDo : Nat → Int32} {fCh : Nat → Int32} {fNx : Nat → Int32} {G N : Nat} {nr ds du : Nat → Nat} {cr : Nat → Nat → Bool} {so : Bool} {Inv : Sg → Prop} {Rt : Int32 → Int32 → (Nat → Int32) → Prop} (hC : CallFix p m c cc nL s args lw_all RX0) (hK : va_K D vwCl (kB dI dJ) s) (hP : va_P D vwCl (bbW h a dI dJ vIs (nI N) (nI G) (bo so) vSc vLe fNu fCo fIx fNe fDi fBe fCr fCw fDo fCh fNx) H) (hD : va_D A (bbW h a dI dJ vIs (nI N) (nI G) (bo so) vSc vLe fNu fCo fIx fNe fDi fBe fCr fCw fDo fCh fNx)) (hS : va_S A H0 H locs) (hA : ∀ q, H0.size ≤ q → A q) (hR : rm_b_solve.frames + 1 ≤ R.frames ∧ 8 + (5 + 11) + rm_b_solve.locals ≤ R.locals) (hl : ls.size = nL) (hW : (rest.map fun v => v.category).sum ≤ 8) (hI : bbI G N nr ds du cr fNu fCo fNe fDi fCr) (hok : okS G N nr ds du cr Inv) (hi0 : Inv (st0 G N nr ds du cr fDo fCh fNx fCw)) (hs : so = true → Rt vSc vLe fCw) (hr : so = false → Rt (run G N nr ds du cr 60000 (st0 G N nr ds du cr fDo fCh fNx fCw)).2.2.2.2.2.2.1 (run G N nr ds du cr 60000 (st0 G N nr ds du cr fDo fCh fNx fCw)).2.2.2.2.2.2.2 (run G N nr ds du cr 60000 (st0 G N nr ds du cr fDo fCh fNx fCw)).2.2.2.2.2.1) (hdg : decode cc pc = .ok (.invokevirtual 58, 3)) (kk : ∀ (sc1 : Int32) (le1 : Int32) (cw1 : Nat → Int32) (dom1 : Nat → Int32) (ch1 : Nat → Int32) (nx1 : Nat → Int32) (H1 : Heap) (locs1 : List Loc), (Rt sc1 le1 cw1) → va_P D vwCl (bbW h a dI dJ vIs (nI N) (nI G) (bo true) sc1 le1 fNu fCo fIx fNe fDi fBe fCr cw1 dom1 ch1 nx1) H1 → va_D A (bbW h a dI dJ vIs (nI N) (nI G) (bo true) sc1 le1 fNu fCo fIx fNe fDi fBe fCr cw1 dom1 ch1 nx1) → va_S A H0 H1 locs1 → W p l e R s m args below meth c H1 locs1 0 0 Q (F0 m (pc + 3) ls rest)) : W p l e R s m args below meth c H locs 0 0 Q (F0 m pc ls (.ref h :: rest)) := km_v hC (t_b_solve l D h a dI dJ vIs vSc vLe fNu fCo fIx fNe fDi fBe fCr fCw fDo fCh fNx G N nr ds du cr so Inv Rt hI hok hi0 hs hr H.size) (cwV 0 hC.2.2.2.2 (lw_V q123 q125 qs2 q24 q126) rfl rfl rfl (by decide +kernel) hR) rfl rfl rfl hl rfl hW ⟨Nat.zero_le _, Nat.zero_le _⟩ hP hK hD hS hA hdg (fun u H1 locs1 a1 a2 a3 a4 => kk u.1 u.2.1 u.2.2.1 u.2.2.2.1 u.2.2.2.2.1 u.2.2.2.2.2 H1 locs1 a1 a2 a3 a4)
end
section
/-! islands and gaps of a board num : cell → number (0: none), as plain functions -/
def rk (num : Nat → Nat) : Nat → Nat
  | 0 => 0
  | c + 1 => rk num c + (if 0 < num c then 1 else 0)
def coN (num : Nat → Nat) (i : Nat) : Nat → Nat
  | 0 => 0
  | c + 1 => if 0 < num c ∧ rk num c = i then c else coN num i c
def co (num : Nat → Nat) (i : Nat) : Nat := coN num i 36
theorem rk_mono (num : Nat → Nat) {a b : Nat} (h : a ≤ b) : rk num a ≤ rk num b := by
  induction h with
  | refl => exact Nat.le_refl _
  | step _ ih => exact Nat.le_trans ih (Nat.le_add_right _ _)
theorem rk_le (num : Nat → Nat) (c : Nat) : rk num c ≤ c := by
  induction c with
  | zero => exact Nat.le_refl _
  | succ c ih => unfold rk; split <;> omega
theorem rk_lt (num : Nat → Nat) {a b : Nat} (ha : 0 < num a) (h : a < b) : rk num a < rk num b := by
  have h1 : rk num (a + 1) ≤ rk num b := rk_mono num h
  have h2 : rk num (a + 1) = rk num a + 1 := by simp [rk, ha]
  omega
theorem rk_inj (num : Nat → Nat) {a b : Nat} (ha : 0 < num a) (hb : 0 < num b) (h : rk num a = rk num b) : a = b := by
  rcases Nat.lt_trichotomy a b with q | q | q
  · have := rk_lt num ha q; omega
  · exact q
  · have := rk_lt num hb q; omega
theorem coN_rk (num : Nat → Nat) {a : Nat} (ha : 0 < num a) : ∀ n, a < n → coN num (rk num a) n = a := by
  intro n
  induction n with
  | zero => intro h; omega
  | succ n ih =>
    intro h
    unfold coN
    by_cases q : 0 < num n ∧ rk num n = rk num a
    · rw [if_pos q]; exact rk_inj num q.1 ha q.2
    · rw [if_neg q]
      refine ih ?_
      rcases Nat.lt_or_ge a n with z | z
      · exact z
      · exact absurd ⟨(show n = a by omega) ▸ ha, by rw [show n = a by omega]⟩ q
theorem co_rk (num : Nat → Nat) {a : Nat} (ha : 0 < num a) (h : a < 36) : co num (rk num a) = a := coN_rk num ha 36 h
theorem rk_sur (num : Nat → Nat) {i : Nat} : ∀ n, i < rk num n → ∃ c, c < n ∧ 0 < num c ∧ rk num c = i := by
  intro n
  induction n with
  | zero => intro h; exact absurd h (Nat.not_lt_zero _)
  | succ n ih =>
    intro h
    by_cases q : i < rk num n
    · obtain ⟨c, h1, h2⟩ := ih q
      exact ⟨c, by omega, h2⟩
    · unfold rk at h
      by_cases z : 0 < num n
      · rw [if_pos z] at h
        exact ⟨n, by omega, z, by omega⟩
      · rw [if_neg z] at h; omega
theorem co_spec (num : Nat → Nat) {i : Nat} (h : i < rk num 36) : co num i < 36 ∧ 0 < num (co num i) ∧ rk num (co num i) = i := by
  obtain ⟨c, h1, h2, h3⟩ := rk_sur num 36 h
  have h4 : co num i = c := by rw [← h3]; exact co_rk num h2 h1
  rw [h4]
  exact ⟨h1, h2, h3⟩
/-- the bit of a cell -/
def msk (c : Nat) : Int64 := (1 : Int64) <<< ((nI c).toInt64 &&& 63)
/-- the look along a row or a column -/
def lkF (num : Nat → Nat) (c st : Nat) : Nat → Nat → Int64 → Option (Nat × Int64)
  | 0, _, _ => none
  | n + 1, k, m => if 0 < num (c + st * k) then some (c + st * k, m) else lkF num c st n (k + 1) (m ||| msk (c + st * k))
abbrev Gp : Type := Nat × Nat × Int64
def lkL (num : Nat → Nat) (c st room : Nat) : List Gp := (lkF num c st room 1 0).toList.map (fun q => (c, q.1, q.2))
def gpO (num : Nat → Nat) (c : Nat) : List Gp := lkL num c 1 (5 - c % 6) ++ lkL num c 6 (5 - c / 6)
def gi (num : Nat → Nat) : Nat → List Gp
  | 0 => []
  | i + 1 => gi num i ++ gpO num (co num i)
def gL (num : Nat → Nat) : List Gp := gi num (rk num 36)
theorem lkL_len (num : Nat → Nat) (c st room : Nat) : (lkL num c st room).length ≤ 1 := by
  unfold lkL
  cases lkF num c st room 1 0 <;> simp
theorem gi_len (num : Nat → Nat) (i : Nat) : (gi num i).length ≤ 2 * i := by
  induction i with
  | zero => exact Nat.le_refl _
  | succ i ih =>
    have h1 := lkL_len num (co num i) 1 (5 - co num i % 6)
    have h2 := lkL_len num (co num i) 6 (5 - co num i / 6)
    simp only [gi, gpO, List.length_append]
    omega
def ixv (num : Nat → Nat) (c : Nat) : Int32 := if 0 < num c then nI (rk num c) else -1
def lkG (o : Option (Nat × Int64)) (g : Nat) : Nat := match o with
  | none => g
  | some _ => g + 1
def lkU (o : Option (Nat × Int64)) (f : Nat → Int32) (g : Nat) (v : Nat → Int32) : Nat → Int32 := match o with
  | none => f
  | some q => upd f g (v q.1)
def lkB (o : Option (Nat × Int64)) (f : Nat → Int64) (g : Nat) : Nat → Int64 := match o with
  | none => f
  | some q => vp_updL f g q.2
/-- arrays that hold a list of gaps, the ends by v -/
def hdG (v : Nat → Int32) (L : List Gp) (ne di : Nat → Int32) (be : Nat → Int64) : Prop := ∀ k q, L[k]? = some q → ne k = v q.1 ∧ di k = v q.2.1 ∧ be k = q.2.2
theorem hdG_0 {v : Nat → Int32} {ne di : Nat → Int32} {be : Nat → Int64} : hdG v [] ne di be := fun k q h => by simp at h
theorem hdG_look {v : Nat → Int32} {L : List Gp} {ne di : Nat → Int32} {be : Nat → Int64} (h : hdG v L ne di be) (num : Nat → Nat) (c st room : Nat) :
    hdG v (L ++ lkL num c st room) (lkU (lkF num c st room 1 0) ne L.length (fun _ => v c)) (lkU (lkF num c st room 1 0) di L.length v) (lkB (lkF num c st room 1 0) be L.length) ∧ (L ++ lkL num c st room).length = lkG (lkF num c st room 1 0) L.length := by
  unfold lkL
  cases lkF num c st room 1 0 with
  | none => simpa [lkU, lkB, lkG] using h
  | some q =>
    refine ⟨?_, by simp [lkG]⟩
    intro k p hk
    by_cases hl : k < L.length
    · rw [List.getElem?_append_left hl] at hk
      have hne : k ≠ L.length := by omega
      obtain ⟨h1, h2, h3⟩ := h k p hk
      exact ⟨(pk_un hne).trans h1, (pk_un hne).trans h2, (pk_uLn hne).trans h3⟩
    · rw [List.getElem?_append_right (by omega)] at hk
      have hz : k - L.length = 0 := by
        rcases Nat.eq_zero_or_pos (k - L.length) with z | z
        · exact z
        · have h9 := (List.getElem?_eq_some_iff.mp hk).1
          simp at h9; omega
      rw [hz] at hk
      simp at hk
      subst hk
      rw [show k = L.length by omega]
      exact ⟨pk_us, pk_us, pk_uLs⟩
/-- crossings as they are gathered -/
def cxv (be : Nat → Int64) (g : Nat) : Nat → Int32
  | 0 => nI 0
  | h + 1 => if h ≠ g ∧ ¬ be g &&& be h = 0 then cxv be g h ||| (nI 1 <<< (nI h &&& 31)) else cxv be g h
theorem one_bt {h i : Nat} (hh : h < 32) (hi : i < 32) : bt (nI 1 <<< (nI h &&& 31)) i = decide (i = h) := by
  rw [b_shl h hh _ hi, show nI 1 = 1 from rfl, b_1]
  by_cases e : i = h
  · subst e; simp
  · by_cases z : h ≤ i
    · simp [z, e]; omega
    · simp [z, e]
theorem cxv_bt (be : Nat → Int64) (g : Nat) : ∀ n, n ≤ 31 → ∀ h, h < 32 → bt (cxv be g n) h = (decide (h < n) && (decide (h ≠ g) && decide (¬ be g &&& be h = 0))) := by
  intro n
  induction n with
  | zero => intro _ h hh; show bt 0 h = _; rw [b_0]; simp
  | succ n ih =>
    intro hn h hh
    have ih1 := ih (by omega) h hh
    unfold cxv
    by_cases q : n ≠ g ∧ ¬ be g &&& be n = 0
    · rw [if_pos q, b_or, ih1, one_bt (by omega) hh]
      by_cases e : h = n
      · subst e; simp [q.1, q.2]
      · have e1 : (h < n + 1) ↔ h < n := by omega
        simp [e, e1]
    · rw [if_neg q, ih1]
      by_cases e : h = n
      · subst e
        have : (decide (h ≠ g) && decide (¬ be g &&& be h = 0)) = false := by
          rw [← Bool.decide_and]; exact decide_eq_false q
        rw [this]; simp
      · have e1 : (h < n + 1) ↔ h < n := by omega
        simp [e1]
def LG (num : Nat → Nat) (co1 ix1 ne1 di1 : Nat → Int32) (be1 : Nat → Int64) (cr1 : Nat → Int32) : Prop :=
  (∀ c, c < 36 → 0 < num c → co1 (rk num c) = nI c) ∧ (∀ c, c < 36 → ix1 c = ixv num c) ∧ hdG (fun c => nI (rk num c)) (gL num) ne1 di1 be1 ∧ ∀ g, g < (gL num).length → cr1 g = cxv be1 g (gL num).length
theorem ixv_neg (num : Nat → Nat) {c : Nat} (hc : c < 36) : ixv num c < 0 ↔ ¬ 0 < num c := by
  unfold ixv
  by_cases h : 0 < num c
  · have := rk_le num c
    rw [if_pos h]
    exact ⟨fun q => absurd q (nI_pos (by omega)), fun q => absurd h q⟩
  · rw [if_neg h]; simp [h]
theorem lgc_1 {x : Int64} (h : lg_cmp x 0 = 0) : x = 0 := by
  unfold lg_cmp at h
  by_cases h1 : 0 < x
  · simp [h1] at h
  · by_cases h2 : 0 = x
    · exact h2.symm
    · simp [h1] at h; exact h
theorem lgc_0 (x : Int64) : lg_cmp x 0 = 0 ↔ x = 0 := ⟨lgc_1, fun h => by rw [h]; rfl⟩
theorem rk_t {num : Nat → Nat} {c : Nat} (h : 0 < num c) : rk num (c + 1) = rk num c + 1 := by simp [rk, h]
theorem rk_f {num : Nat → Nat} {c : Nat} (h : num c = 0) : rk num (c + 1) = rk num c := by simp [rk, h]
def lgA (num : Nat → Nat) (c : Nat) (ix co1 : Nat → Int32) : Prop := ∀ j, j < c → ix j = ixv num j ∧ (0 < num j → co1 (rk num j) = nI j)
theorem lgA_t {num : Nat → Nat} {c : Nat} {ix co1 : Nat → Int32} (h : lgA num c ix co1) (hc : 0 < num c) : lgA num (c + 1) (upd (upd ix c (-1)) c (nI (rk num c))) (upd co1 (rk num c) (nI c)) := by
  intro j hj
  by_cases e : j = c
  · subst e
    exact ⟨pk_us.trans (if_pos hc).symm, fun _ => pk_us⟩
  · obtain ⟨h1, h2⟩ := h j (by omega)
    refine ⟨(pk_un e).trans ((pk_un e).trans h1), fun q => (pk_un ?_).trans (h2 q)⟩
    have := rk_lt num q (show j < c by omega)
    omega
theorem lgA_f {num : Nat → Nat} {c : Nat} {ix co1 : Nat → Int32} (h : lgA num c ix co1) (hc : num c = 0) : lgA num (c + 1) (upd ix c (-1)) co1 := by
  intro j hj
  by_cases e : j = c
  · subst e
    exact ⟨pk_us.trans (if_neg (by omega)).symm, fun q => by omega⟩
  · obtain ⟨h1, h2⟩ := h j (by omega)
    exact ⟨(pk_un e).trans h1, h2⟩
theorem gL_len {num : Nat → Nat} (h : rk num 36 ≤ 7) : (gL num).length ≤ 14 := by have := gi_len num (rk num 36); unfold gL; omega
theorem gi_s (num : Nat → Nat) (i : Nat) : gi num (i + 1) = (gi num i ++ lkL num (co num i) 1 (5 - co num i % 6)) ++ lkL num (co num i) 6 (5 - co num i / 6) := by rw [gi, gpO, List.append_assoc]
theorem hdG_b {num : Nat → Nat} {L : List Gp} {ne di : Nat → Int32} {be : Nat → Int64} (h : hdG (fun c => nI (rk num c)) L ne di be) {i c : Nat} (hc : rk num c = i) (st room : Nat) :
    hdG (fun c => nI (rk num c)) (L ++ lkL num c st room) (lkU (lkF num c st room 1 0) ne L.length (fun _ => nI i)) (lkU (lkF num c st room 1 0) di L.length (fun c => nI (rk num c))) (lkB (lkF num c st room 1 0) be L.length) := by
  have h1 := (hdG_look h num c st room).1
  subst hc
  exact h1
end
section
/-! BridgeBoard: look, listGaps -/
abbrev rm_b_look : Room := { frames := 0, cells := 0, slots := 0, locals := 0 }
set_option maxHeartbeats 4000000 in
set_option maxRecDepth 100000 in
/-- look -/
theorem t_b_look (l : Launch) (D : va_G) (h : Nat) (a : Nat → Nat) (dI dJ : ClassId) (vIs : Int32) (vLi : Int32) (vSo : Int32) (vSc : Int32) (vLe : Int32) (fNu : Nat → Int32) (fCo : Nat → Int32) (fIx : Nat → Int32) (fNe : Nat → Int32) (fDi : Nat → Int32) (fBe : Nat → Int64) (fCr : Nat → Int32) (fCw : Nat → Int32) (fDo : Nat → Int32) (fCh : Nat → Int32) (fNx : Nat → Int32) (num : Nat → Nat) (i c0 st room g0 : Nat) (hix : ∀ c, c < 36 → fIx c = ixv num c) (hin : ∀ k, k ≤ room → c0 + st * k < 36) (hro : room ≤ 5) (hg0 : g0 < 16) (sz : Nat) : Met l yX0_look (ws_ yX0_look cX0_look 9 none) rm_b_look (cP D (kB dI dJ) (bbW h a dI dJ vIs vLi (nI g0) vSo vSc vLe fNu fCo fIx fNe fDi fBe fCr fCw fDo fCh fNx) sz [.ref h, .int (nI i), .int (nI c0), .int (nI st), .int (nI room)]) (cQv D (kB dI dJ) (bbW h a dI dJ vIs vLi (nI g0) vSo vSc vLe fNu fCo fIx fNe fDi fBe fCr fCw fDo fCh fNx) sz (fun (u : Unit) => True) (fun (u : Unit) => bbW h a dI dJ vIs vLi (nI (lkG (lkF num c0 st room 1 0) g0)) vSo vSc vLe fNu fCo fIx (lkU (lkF num c0 st room 1 0) fNe g0 (fun _ => nI i)) (lkU (lkF num c0 st room 1 0) fDi g0 (fun c => nI (rk num c))) (lkB (lkF num c0 st room 1 0) fBe g0) fCr fCw fDo fCh fNx)) 0 0 (va_A (bbW h a dI dJ vIs vLi (nI g0) vSo vSc vLe fNu fCo fIx fNe fDi fBe fCr fCw fDo fCh fNx) sz) := by
  refine en_v (by decide) (Nat.le_of_ble_eq_true rfl) ?_
  intro p e s m below meth c ls Q A hC hP hK hD hA hS hl hret
  have hC : CallFix p m c cX0_look 9 s _ lw_all RX0 := hC
  have hx := hC.1
  have hb := hC.2.1
  have hl : lv_has ls 9 [(0, .ref h), (1, .int (nI i)), (2, .int (nI c0)), (3, .int (nI st)), (4, .int (nI room))] := hl
  have lp : ∀ (n : Nat) (k : Nat) (m0 : Int64) (ls : Array Slot), (1 ≤ k) → (k ≤ room + 1) → (lkF num c0 st (room + 1 - k) k m0 = lkF num c0 st room 1 0) → room + 1 < k + n → ∀ (H : Heap) (locs : List Loc), va_P D vwCl (bbW h a dI dJ vIs vLi (nI g0) vSo vSc vLe fNu fCo fIx fNe fDi fBe fCr fCw fDo fCh fNx) H → va_D A (bbW h a dI dJ vIs vLi (nI g0) vSo vSc vLe fNu fCo fIx fNe fDi fBe fCr fCw fDo fCh fNx) → va_S A s.heap H locs → lv_has ls 9 [(0, .ref h), (1, .int (nI i)), (2, .int (nI c0)), (3, .int (nI st)), (4, .int (nI room)), (5, .long m0), (7, .int (nI k))] → W p l e rm_b_look s m ([.ref h, .int (nI i), .int (nI c0), .int (nI st), .int (nI room)] : List Value).toArray below meth c H locs 0 0 Q (F0 m 6 ls []) := by
    intro n
    induction n with
    | zero =>
      intro k m0 ls hk hk2 he hfu
      exact absurd hfu (by omega)
    | succ n ih =>
      intro k m0 ls hk hk2 he hfu H locs hP hD hS hl
      refine lv_iload hx hb dX0_look_6 (lv_at hl 6 rfl) ?_
      refine lv_iload hx hb dX0_look_8 (lv_at hl 4 rfl) ?_
      refine nb_gt (tgt := 94) hx hb dX0_look_10 (by decide) (by omega) (by omega) (fun c1 => ?_) (fun c1 => ?_)
      · rw [show room + 1 - k = 0 by omega, lkF] at he
        rw [← he] at hret
        exact hret _ _ 94 _ () dX0_look_94 trivial hP hD hS
      · rw [show room + 1 - k = (room + 1 - (k + 1)) + 1 by omega, lkF] at he
        have hc6 := hin k c1
        refine lv_iload_n hx hb dX0_look_13 rfl (lv_at hl 2 rfl) ?_
        refine lv_iload_n hx hb dX0_look_14 rfl (lv_at hl 3 rfl) ?_
        refine lv_iload hx hb dX0_look_15 (lv_at hl 6 rfl) ?_
        refine nn_mul hx hb dX0_look_17 ?_
        refine nn_add hx hb dX0_look_18 ?_
        refine lv_istore (lv' := [(8, .int (nI (c0 + (st * k)))), (0, .ref h), (1, .int (nI i)), (2, .int (nI c0)), (3, .int (nI st)), (4, .int (nI room)), (5, .long m0), (7, .int (nI k))]) hx hb dX0_look_19 hl (by decide) rfl (fun ls hl => ?_)
        refine lv_aload_n hx hb dX0_look_21 rfl (lv_at hl 1 rfl) ?_
        refine g0_indexAt hC hK hP dX0_look_22 ?_
        refine lv_iload hx hb dX0_look_25 (lv_at hl 0 rfl) ?_
        refine l0_indexAt hC hK hP (hc6) dX0_look_27 ?_
        refine ct_i (y := ixv num (c0 + st * k)) (hix _ hc6) ?_
        refine lv_if_lt (tgt := 79) hx hb dX0_look_28 (by decide) (fun c2 => ?_) (fun c2 => ?_)
        · rw [if_neg ((ixv_neg num hc6).mp c2)] at he
          refine lv_lload hx hb dX0_look_79 (lv_at hl 6 rfl) ?_
          refine lv_lconst (v := 1) hx hb dX0_look_81 (by decide) ?_
          refine lv_iload hx hb dX0_look_82 (lv_at hl 0 rfl) ?_
          refine lv_lshl (v := (1 : Int64) <<< ((nI (c0 + (st * k))).toInt64 &&& 63)) hx hb dX0_look_84 rfl ?_
          refine lv_lor hx hb dX0_look_85 ?_
          refine ct_l (y := m0 ||| msk (c0 + st * k)) (rfl) ?_
          refine lv_lstore (lv' := [(5, .long (m0 ||| msk (c0 + st * k))), (8, .int (nI (c0 + (st * k)))), (0, .ref h), (1, .int (nI i)), (2, .int (nI c0)), (3, .int (nI st)), (4, .int (nI room)), (7, .int (nI k))]) hx hb dX0_look_86 hl (by decide) rfl (fun ls hl => ?_)
          refine lv_iinc (v := nI (k + 1)) (lv' := [(7, .int (nI (k + 1))), (5, .long (m0 ||| msk (c0 + st * k))), (8, .int (nI (c0 + (st * k)))), (0, .ref h), (1, .int (nI i)), (2, .int (nI c0)), (3, .int (nI st)), (4, .int (nI room))]) hx hb dX0_look_88 hl (k := 7) rfl (nI_1 _) (by decide) rfl (fun ls hl => ?_)
          refine lv_goto (tgt := 6) hx hb dX0_look_91 (by decide) ?_
          exact ih (k + 1) _ _ (by omega) (by omega) he (by omega) _ _ hP hD hS (lv_sub hl [3, 4, 5, 6, 7, 1, 0] rfl)
        · have hn9 : 0 < num (c0 + st * k) := by rcases Nat.lt_or_ge 0 (num (c0 + st * k)) with q | q; exact q; exact absurd ((ixv_neg num hc6).mpr (by omega)) c2
          rw [if_pos hn9] at he
          rw [← he] at hret
          refine lv_aload_n hx hb dX0_look_31 rfl (lv_at hl 1 rfl) ?_
          refine g0_near hC hK hP dX0_look_32 ?_
          refine lv_aload_n hx hb dX0_look_35 rfl (lv_at hl 1 rfl) ?_
          refine g0_gapCount hC hK hP dX0_look_36 ?_
          refine lv_iload_n hx hb dX0_look_39 rfl (lv_at hl 2 rfl) ?_
          refine s0_near hC hK hP hD hS (by omega) dX0_look_40 (fun H locs hP hD hS => ?_)
          refine lv_aload_n hx hb dX0_look_41 rfl (lv_at hl 1 rfl) ?_
          refine g0_distant hC hK hP dX0_look_42 ?_
          refine lv_aload_n hx hb dX0_look_45 rfl (lv_at hl 1 rfl) ?_
          refine g0_gapCount hC hK hP dX0_look_46 ?_
          refine lv_aload_n hx hb dX0_look_49 rfl (lv_at hl 1 rfl) ?_
          refine g0_indexAt hC hK hP dX0_look_50 ?_
          refine lv_iload hx hb dX0_look_53 (lv_at hl 0 rfl) ?_
          refine l0_indexAt hC hK hP (hc6) dX0_look_55 ?_
          refine ct_i (y := nI (rk num (c0 + st * k))) ((hix _ hc6).trans (if_pos hn9)) ?_
          refine s0_distant hC hK hP hD hS (by omega) dX0_look_56 (fun H locs hP hD hS => ?_)
          refine lv_aload_n hx hb dX0_look_57 rfl (lv_at hl 1 rfl) ?_
          refine g0_between hC hK hP dX0_look_58 ?_
          refine lv_aload_n hx hb dX0_look_61 rfl (lv_at hl 1 rfl) ?_
          refine g0_gapCount hC hK hP dX0_look_62 ?_
          refine lv_lload hx hb dX0_look_65 (lv_at hl 6 rfl) ?_
          refine s0_between hC hK hP hD hS (by omega) dX0_look_67 (fun H locs hP hD hS => ?_)
          refine lv_aload_n hx hb dX0_look_68 rfl (lv_at hl 1 rfl) ?_
          refine lv_dup hx hb dX0_look_69 rfl ?_
          refine g0_gapCount hC hK hP dX0_look_70 ?_
          refine lv_iconst (v := nI 1) hx hb dX0_look_73 (by decide) ?_
          refine nn_add hx hb dX0_look_74 ?_
          refine p0_gapCount hC hK hP hD hS dX0_look_75 (fun H locs hP hD hS => ?_)
          exact hret _ _ 78 _ () dX0_look_78 trivial hP hD hS
  refine lv_lconst (v := 0) hx hb dX0_look_0 (by decide) ?_
  refine lv_lstore (lv' := [(5, .long (0 : Int64)), (0, .ref h), (1, .int (nI i)), (2, .int (nI c0)), (3, .int (nI st)), (4, .int (nI room))]) hx hb dX0_look_1 hl (by decide) rfl (fun ls hl => ?_)
  refine lv_iconst (v := nI 1) hx hb dX0_look_3 (by decide) ?_
  refine lv_istore (lv' := [(7, .int (nI 1)), (5, .long (0 : Int64)), (0, .ref h), (1, .int (nI i)), (2, .int (nI c0)), (3, .int (nI st)), (4, .int (nI room))]) hx hb dX0_look_4 hl (by decide) rfl (fun ls hl => ?_)
  exact lp (room + 2) 1 _ _ (by omega) (by omega) rfl (by omega) _ _ hP hD hS (lv_sub hl [2, 3, 4, 5, 6, 1, 0] rfl)
theorem k_b_look {p : Program} {l : Launch} {e : Env} {R : Room} {s : State} {m : MethodId} {args : Array Value} {below : List Frame} {meth : Method} {c : Code} {H : Heap} {locs : List Loc} {Q : State → Prop} {cc : ByteArray} {pc nL : Nat} {ls : Array Slot} {rest : List Value} {D : va_G} {A : Nat → Prop} {H0 : Heap} {h : Nat} {a : Nat → Nat} {dI dJ : ClassId} {vIs : Int32} {vLi : Int32} {vSo : Int32} {vSc : Int32} {vLe : Int32} {fNu : Nat → Int32} {fCo : Nat → Int32} {fIx : Nat → Int32} {fNe : Nat → Int32} {fDi : Nat → Int32} {fBe : Nat → Int64} {fCr : Nat → Int32} {fCw : Nat → Int32} {fDo : Nat → Int32} {fCh : Nat → Int32} {fNx : Nat → Int32} {num : Nat → Nat} {i c0 st room g0 : Nat} (hC : CallFix p m c cc nL s args lw_all RX0) (hK : va_K D vwCl (kB dI dJ) s) (hP : va_P D vwCl (bbW h a dI dJ vIs vLi (nI g0) vSo vSc vLe fNu fCo fIx fNe fDi fBe fCr fCw fDo fCh fNx) H) (hD : va_D A (bbW h a dI dJ vIs vLi (nI g0) vSo vSc vLe fNu fCo fIx fNe fDi fBe fCr fCw fDo fCh fNx)) (hS : va_S A H0 H locs) (hA : ∀ q, H0.size ≤ q → A q) (hR : rm_b_look.frames + 1 ≤ R.frames ∧ 8 + (9 + 11) + rm_b_look.locals ≤ R.locals) (hl : ls.size = nL) (hW : (rest.map fun v => v.category).sum ≤ 8) (hix : ∀ c, c < 36 → fIx c = ixv num c) (hin : ∀ k, k ≤ room → c0 + st * k < 36) (hro : room ≤ 5) (hg0 : g0 < 16) (hdg : decode cc pc = .ok (.invokevirtual 82, 3)) (kk : ∀  (H1 : Heap) (locs1 : List Loc), (True) → va_P D vwCl (bbW h a dI dJ vIs vLi (nI (lkG (lkF num c0 st room 1 0) g0)) vSo vSc vLe fNu fCo fIx (lkU (lkF num c0 st room 1 0) fNe g0 (fun _ => nI i)) (lkU (lkF num c0 st room 1 0) fDi g0 (fun c => nI (rk num c))) (lkB (lkF num c0 st room 1 0) fBe g0) fCr fCw fDo fCh fNx) H1 → va_D A (bbW h a dI dJ vIs vLi (nI (lkG (lkF num c0 st room 1 0) g0)) vSo vSc vLe fNu fCo fIx (lkU (lkF num c0 st room 1 0) fNe g0 (fun _ => nI i)) (lkU (lkF num c0 st room 1 0) fDi g0 (fun c => nI (rk num c))) (lkB (lkF num c0 st room 1 0) fBe g0) fCr fCw fDo fCh fNx) → va_S A H0 H1 locs1 → W p l e R s m args below meth c H1 locs1 0 0 Q (F0 m (pc + 3) ls rest)) : W p l e R s m args below meth c H locs 0 0 Q (F0 m pc ls (.int (nI room) :: .int (nI st) :: .int (nI c0) :: .int (nI i) :: .ref h :: rest)) := km_v hC (t_b_look l D h a dI dJ vIs vLi vSo vSc vLe fNu fCo fIx fNe fDi fBe fCr fCw fDo fCh fNx num i c0 st room g0 hix hin hro hg0 H.size) (cwV 4 hC.2.2.2.2 (lw_V q38 q40 qs1 q24 q41) rfl rfl rfl (by decide +kernel) hR) rfl rfl rfl hl rfl hW ⟨Nat.zero_le _, Nat.zero_le _⟩ hP hK hD hS hA hdg (fun u H1 locs1 a1 a2 a3 a4 => kk  H1 locs1 a1 a2 a3 a4)
abbrev rm_b_listGaps : Room := { frames := 1, cells := 0, slots := 0, locals := 28 }
set_option maxHeartbeats 4000000 in
set_option maxRecDepth 100000 in
/-- listGaps -/
theorem t_b_listGaps (l : Launch) (D : va_G) (h : Nat) (a : Nat → Nat) (dI dJ : ClassId) (vIs : Int32) (vLi : Int32) (vGc : Int32) (vSo : Int32) (vSc : Int32) (vLe : Int32) (fNu : Nat → Int32) (fCo : Nat → Int32) (fIx : Nat → Int32) (fNe : Nat → Int32) (fDi : Nat → Int32) (fBe : Nat → Int64) (fCr : Nat → Int32) (fCw : Nat → Int32) (fDo : Nat → Int32) (fCh : Nat → Int32) (fNx : Nat → Int32) (num : Nat → Nat) (hnu : ∀ c, c < 36 → fNu c = nI (num c) ∧ num c ≤ 8) (h7 : rk num 36 ≤ 7) (sz : Nat) : Met l yX0_listGaps (ws_ yX0_listGaps cX0_listGaps 3 none) rm_b_listGaps (cP D (kB dI dJ) (bbW h a dI dJ vIs vLi vGc vSo vSc vLe fNu fCo fIx fNe fDi fBe fCr fCw fDo fCh fNx) sz [.ref h]) (cQv D (kB dI dJ) (bbW h a dI dJ vIs vLi vGc vSo vSc vLe fNu fCo fIx fNe fDi fBe fCr fCw fDo fCh fNx) sz (fun (u : (Nat → Int32) × (Nat → Int32) × (Nat → Int32) × (Nat → Int32) × (Nat → Int64) × (Nat → Int32)) => LG num u.1 u.2.1 u.2.2.1 u.2.2.2.1 u.2.2.2.2.1 u.2.2.2.2.2) (fun (u : (Nat → Int32) × (Nat → Int32) × (Nat → Int32) × (Nat → Int32) × (Nat → Int64) × (Nat → Int32)) => bbW h a dI dJ vIs (nI (rk num 36)) (nI (gL num).length) (bo false) vSc vLe fNu u.1 u.2.1 u.2.2.1 u.2.2.2.1 u.2.2.2.2.1 u.2.2.2.2.2 fCw fDo fCh fNx)) 0 0 (va_A (bbW h a dI dJ vIs vLi vGc vSo vSc vLe fNu fCo fIx fNe fDi fBe fCr fCw fDo fCh fNx) sz) := by
  refine en_v (by decide) (Nat.le_of_ble_eq_true rfl) ?_
  intro p e s m below meth c ls Q A hC hP hK hD hA hS hl hret
  have hC : CallFix p m c cX0_listGaps 3 s _ lw_all RX0 := hC
  have hx := hC.1
  have hb := hC.2.1
  have hl : lv_has ls 3 [(0, .ref h)] := hl
  have h14 := gL_len h7
  have lpC : ∀ (n : Nat) (g : Nat) (co1 ix1 ne1 di1 : Nat → Int32) (be1 : Nat → Int64) (f : Nat → Int32) (ls : Array Slot), (g ≤ (gL num).length) → (lgA num 36 ix1 co1) → (hdG (fun c => nI (rk num c)) (gL num) ne1 di1 be1) → (∀ j, j < g → f j = cxv be1 j (gL num).length) → (gL num).length < g + n → ∀ (H : Heap) (locs : List Loc), va_P D vwCl (bbW h a dI dJ vIs (nI (rk num 36)) (nI (gL num).length) (bo false) vSc vLe fNu co1 ix1 ne1 di1 be1 f fCw fDo fCh fNx) H → va_D A (bbW h a dI dJ vIs (nI (rk num 36)) (nI (gL num).length) (bo false) vSc vLe fNu co1 ix1 ne1 di1 be1 f fCw fDo fCh fNx) → va_S A s.heap H locs → lv_has ls 3 [(0, .ref h), (1, .int (nI g))] → W p l e rm_b_listGaps s m ([.ref h] : List Value).toArray below meth c H locs 0 0 Q (F0 m 127 ls []) := by
    intro n
    induction n with
    | zero =>
      intro g co1 ix1 ne1 di1 be1 f ls hg ha hd hf hfu
      exact absurd hfu (by omega)
    | succ n ih =>
      intro g co1 ix1 ne1 di1 be1 f ls hg ha hd hf hfu H locs hP hD hS hl
      refine lv_iload_n hx hb dX0_listGaps_127 rfl (lv_at hl 1 rfl) ?_
      refine lv_aload_n hx hb dX0_listGaps_128 rfl (lv_at hl 0 rfl) ?_
      refine g0_gapCount hC hK hP dX0_listGaps_129 ?_
      refine nb_ge (tgt := 199) hx hb dX0_listGaps_132 (by decide) (by omega) (by omega) (fun c1 => ?_) (fun c1 => ?_)
      · exact hret _ _ 199 _ (co1, ix1, ne1, di1, be1, f) dX0_listGaps_199 (⟨fun c hc q => (ha c hc).2 q, fun c hc => (ha c hc).1, hd, fun j hj => hf j (by omega)⟩) hP hD hS
      · have ih1 := ih
        have lpD : ∀ (n : Nat) (k : Nat) (f : Nat → Int32) (ls : Array Slot), (k ≤ (gL num).length) → (f g = cxv be1 g k) → (∀ j, j < g → f j = cxv be1 j (gL num).length) → (gL num).length < k + n → ∀ (H : Heap) (locs : List Loc), va_P D vwCl (bbW h a dI dJ vIs (nI (rk num 36)) (nI (gL num).length) (bo false) vSc vLe fNu co1 ix1 ne1 di1 be1 f fCw fDo fCh fNx) H → va_D A (bbW h a dI dJ vIs (nI (rk num 36)) (nI (gL num).length) (bo false) vSc vLe fNu co1 ix1 ne1 di1 be1 f fCw fDo fCh fNx) → va_S A s.heap H locs → lv_has ls 3 [(0, .ref h), (1, .int (nI g)), (2, .int (nI k))] → W p l e rm_b_listGaps s m ([.ref h] : List Value).toArray below meth c H locs 0 0 Q (F0 m 144 ls []) := by
          intro n
          induction n with
          | zero =>
            intro k f ls hk hfg hf2 hfu
            exact absurd hfu (by omega)
          | succ n ih =>
            intro k f ls hk hfg hf2 hfu H locs hP hD hS hl
            refine lv_iload_n hx hb dX0_listGaps_144 rfl (lv_at hl 2 rfl) ?_
            refine lv_aload_n hx hb dX0_listGaps_145 rfl (lv_at hl 0 rfl) ?_
            refine g0_gapCount hC hK hP dX0_listGaps_146 ?_
            refine nb_ge (tgt := 193) hx hb dX0_listGaps_149 (by decide) (by omega) (by omega) (fun c2 => ?_) (fun c2 => ?_)
            · have ek : k = (gL num).length := by omega
              refine lv_iinc (v := nI (g + 1)) (lv' := [(1, .int (nI (g + 1))), (0, .ref h), (2, .int (nI k))]) hx hb dX0_listGaps_193 hl (k := 1) rfl (nI_1 _) (by decide) rfl (fun ls hl => ?_)
              refine lv_goto (tgt := 127) hx hb dX0_listGaps_196 (by decide) ?_
              exact ih1 (g + 1) co1 ix1 ne1 di1 be1 _ _ (by omega) ha hd (fun j hj => by rcases Nat.lt_or_ge j g with q | q; exact hf2 j q; rw [show j = g by omega, hfg, ek]) (by omega) _ _ hP hD hS (lv_sub hl [1, 0] rfl)
            · refine lv_iload_n hx hb dX0_listGaps_152 rfl (lv_at hl 2 rfl) ?_
              refine lv_iload_n hx hb dX0_listGaps_153 rfl (lv_at hl 1 rfl) ?_
              refine nb_eq (tgt := 187) hx hb dX0_listGaps_154 (by decide) (by omega) (by omega) (fun c3 => ?_) (fun c3 => ?_)
              · refine lv_iinc (v := nI (k + 1)) (lv' := [(2, .int (nI (k + 1))), (0, .ref h), (1, .int (nI g))]) hx hb dX0_listGaps_187 hl (k := 2) rfl (nI_1 _) (by decide) rfl (fun ls hl => ?_)
                refine lv_goto (tgt := 144) hx hb dX0_listGaps_190 (by decide) ?_
                exact ih (k + 1) _ _ (by omega) (by rw [hfg, cxv, if_neg (fun q => q.1 c3)]) hf2 (by omega) _ _ hP hD hS (lv_sub hl [1, 2, 0] rfl)
              · refine lv_aload_n hx hb dX0_listGaps_157 rfl (lv_at hl 0 rfl) ?_
                refine g0_between hC hK hP dX0_listGaps_158 ?_
                refine lv_iload_n hx hb dX0_listGaps_161 rfl (lv_at hl 1 rfl) ?_
                refine l0_between hC hK hP (by omega) dX0_listGaps_162 ?_
                refine lv_aload_n hx hb dX0_listGaps_163 rfl (lv_at hl 0 rfl) ?_
                refine g0_between hC hK hP dX0_listGaps_164 ?_
                refine lv_iload_n hx hb dX0_listGaps_167 rfl (lv_at hl 2 rfl) ?_
                refine l0_between hC hK hP (by omega) dX0_listGaps_168 ?_
                refine lv_land hx hb dX0_listGaps_169 ?_
                refine lv_lconst (v := 0) hx hb dX0_listGaps_170 (by decide) ?_
                refine W.lcmp hx hb dX0_listGaps_171 ?_
                refine lv_if_eq (tgt := 187) hx hb dX0_listGaps_172 (by decide) (fun c4 => ?_) (fun c4 => ?_)
                · refine lv_iinc (v := nI (k + 1)) (lv' := [(2, .int (nI (k + 1))), (0, .ref h), (1, .int (nI g))]) hx hb dX0_listGaps_187 hl (k := 2) rfl (nI_1 _) (by decide) rfl (fun ls hl => ?_)
                  refine lv_goto (tgt := 144) hx hb dX0_listGaps_190 (by decide) ?_
                  exact ih (k + 1) _ _ (by omega) (by rw [hfg, cxv, if_neg (fun q => q.2 ((lgc_0 _).mp c4))]) hf2 (by omega) _ _ hP hD hS (lv_sub hl [1, 2, 0] rfl)
                · refine lv_aload_n hx hb dX0_listGaps_175 rfl (lv_at hl 0 rfl) ?_
                  refine g0_crossing hC hK hP dX0_listGaps_176 ?_
                  refine lv_iload_n hx hb dX0_listGaps_179 rfl (lv_at hl 1 rfl) ?_
                  refine lv_dup2_11 hx hb dX0_listGaps_180 rfl rfl ?_
                  refine l0_crossing hC hK hP (by omega) dX0_listGaps_181 ?_
                  refine lv_iconst (v := nI 1) hx hb dX0_listGaps_182 (by decide) ?_
                  refine lv_iload_n hx hb dX0_listGaps_183 rfl (lv_at hl 2 rfl) ?_
                  refine lv_ishl hx hb dX0_listGaps_184 ?_
                  refine lv_ior hx hb dX0_listGaps_185 ?_
                  refine s0_crossing hC hK hP hD hS (by omega) dX0_listGaps_186 (fun H locs hP hD hS => ?_)
                  refine lv_iinc (v := nI (k + 1)) (lv' := [(2, .int (nI (k + 1))), (0, .ref h), (1, .int (nI g))]) hx hb dX0_listGaps_187 hl (k := 2) rfl (nI_1 _) (by decide) rfl (fun ls hl => ?_)
                  refine lv_goto (tgt := 144) hx hb dX0_listGaps_190 (by decide) ?_
                  exact ih (k + 1) _ _ (by omega) (by rw [pk_us, hfg, cxv, if_pos ⟨c3, fun q => c4 ((lgc_0 _).mpr q)⟩]) (fun j hj => (pk_un (by omega)).trans (hf2 j hj)) (by omega) _ _ hP hD hS (lv_sub hl [1, 2, 0] rfl)
        refine lv_aload_n hx hb dX0_listGaps_135 rfl (lv_at hl 0 rfl) ?_
        refine g0_crossing hC hK hP dX0_listGaps_136 ?_
        refine lv_iload_n hx hb dX0_listGaps_139 rfl (lv_at hl 1 rfl) ?_
        refine lv_iconst (v := nI 0) hx hb dX0_listGaps_140 (by decide) ?_
        refine s0_crossing hC hK hP hD hS (by omega) dX0_listGaps_141 (fun H locs hP hD hS => ?_)
        refine lv_iconst (v := nI 0) hx hb dX0_listGaps_142 (by decide) ?_
        refine lv_istore_n (lv' := [(2, .int (nI 0)), (0, .ref h), (1, .int (nI g))]) hx hb dX0_listGaps_143 rfl hl (by decide) rfl (fun ls hl => ?_)
        exact lpD ((gL num).length + 1) 0 _ _ (by omega) pk_us (fun j hj => (pk_un (by omega)).trans (hf j hj)) (by omega) _ _ hP hD hS (lv_sub hl [1, 2, 0] rfl)
  have lpB : ∀ (n : Nat) (i : Nat) (co1 ix1 ne1 di1 : Nat → Int32) (be1 : Nat → Int64) (ls : Array Slot), (i ≤ rk num 36) → (lgA num 36 ix1 co1) → (hdG (fun c => nI (rk num c)) (gi num i) ne1 di1 be1) → rk num 36 < i + n → ∀ (H : Heap) (locs : List Loc), va_P D vwCl (bbW h a dI dJ vIs (nI (rk num 36)) (nI (gi num i).length) (bo false) vSc vLe fNu co1 ix1 ne1 di1 be1 fCr fCw fDo fCh fNx) H → va_D A (bbW h a dI dJ vIs (nI (rk num 36)) (nI (gi num i).length) (bo false) vSc vLe fNu co1 ix1 ne1 di1 be1 fCr fCw fDo fCh fNx) → va_S A s.heap H locs → lv_has ls 3 [(0, .ref h), (1, .int (nI i))] → W p l e rm_b_listGaps s m ([.ref h] : List Value).toArray below meth c H locs 0 0 Q (F0 m 77 ls []) := by
    intro n
    induction n with
    | zero =>
      intro i co1 ix1 ne1 di1 be1 ls hi ha hd hfu
      exact absurd hfu (by omega)
    | succ n ih =>
      intro i co1 ix1 ne1 di1 be1 ls hi ha hd hfu H locs hP hD hS hl
      refine lv_iload_n hx hb dX0_listGaps_77 rfl (lv_at hl 1 rfl) ?_
      refine lv_aload_n hx hb dX0_listGaps_78 rfl (lv_at hl 0 rfl) ?_
      refine g0_listed hC hK hP dX0_listGaps_79 ?_
      refine nb_ge (tgt := 125) hx hb dX0_listGaps_82 (by decide) (by omega) (by omega) (fun c5 => ?_) (fun c5 => ?_)
      · have ei : i = rk num 36 := by omega
        rw [ei] at hP hD hd
        have hP : va_P D vwCl (bbW h a dI dJ vIs (nI (rk num 36)) (nI (gL num).length) (bo false) vSc vLe fNu co1 ix1 ne1 di1 be1 fCr fCw fDo fCh fNx) H := hP
        have hD : va_D A (bbW h a dI dJ vIs (nI (rk num 36)) (nI (gL num).length) (bo false) vSc vLe fNu co1 ix1 ne1 di1 be1 fCr fCw fDo fCh fNx) := hD
        refine lv_iconst (v := nI 0) hx hb dX0_listGaps_125 (by decide) ?_
        refine lv_istore_n (lv' := [(1, .int (nI 0)), (0, .ref h)]) hx hb dX0_listGaps_126 rfl hl (by decide) rfl (fun ls hl => ?_)
        exact lpC ((gL num).length + 1) 0 co1 ix1 ne1 di1 be1 _ _ (by omega) ha hd (fun j hj => by omega) (by omega) _ _ hP hD hS (lv_sub hl [1, 0] rfl)
      · obtain ⟨hc1, hc2, hc3⟩ := co_spec num c5
        have hci : co1 i = nI (co num i) := by have h9 := (ha (co num i) hc1).2 hc2; rw [hc3] at h9; exact h9
        have hix : ∀ c, c < 36 → ix1 c = ixv num c := fun c hc => (ha c hc).1
        have hgl := gi_len num i
        generalize hcc : co num i = cc0 at hc1 hc2 hc3 hci
        refine lv_aload_n hx hb dX0_listGaps_85 rfl (lv_at hl 0 rfl) ?_
        refine g0_cellOf hC hK hP dX0_listGaps_86 ?_
        refine lv_iload_n hx hb dX0_listGaps_89 rfl (lv_at hl 1 rfl) ?_
        refine l0_cellOf hC hK hP (by omega) dX0_listGaps_90 ?_
        refine ct_i (y := nI cc0) (hci) ?_
        refine lv_istore_n (lv' := [(2, .int (nI cc0)), (0, .ref h), (1, .int (nI i))]) hx hb dX0_listGaps_91 rfl hl (by decide) rfl (fun ls hl => ?_)
        refine lv_aload_n hx hb dX0_listGaps_92 rfl (lv_at hl 1 rfl) ?_
        refine lv_iload_n hx hb dX0_listGaps_93 rfl (lv_at hl 2 rfl) ?_
        refine lv_iload_n hx hb dX0_listGaps_94 rfl (lv_at hl 0 rfl) ?_
        refine lv_iconst (v := nI 1) hx hb dX0_listGaps_95 (by decide) ?_
        refine lv_iconst (v := nI 5) hx hb dX0_listGaps_96 (by decide) ?_
        refine lv_iload_n hx hb dX0_listGaps_97 rfl (lv_at hl 0 rfl) ?_
        refine lv_bipush (v := nI 6) hx hb dX0_listGaps_98 (by decide) ?_
        refine nn_rem hx hb (by omega) (by decide) (by decide) dX0_listGaps_100 ?_
        refine nn_sub hx hb (by omega) dX0_listGaps_101 ?_
        refine k_b_look (num := num) hC hK hP hD hS hA (by decide) hl.1 (Nat.le_of_ble_eq_true rfl) hix (by intro k hk; omega) (by omega) (by omega) dX0_listGaps_102 (fun  H locs _ hP hD hS => ?_)
        have hd1 := hdG_b hd hc3 1 (5 - cc0 % 6)
        have hl1 := (hdG_look hd num cc0 1 (5 - cc0 % 6)).2
        rw [← hl1] at hP hD
        generalize lkU (lkF num cc0 1 (5 - (cc0 % 6)) 1 0) ne1 ((gi num i).length) (fun _ => nI i) = ne19 at hP hD hd1
        generalize lkU (lkF num cc0 1 (5 - (cc0 % 6)) 1 0) di1 ((gi num i).length) (fun c => nI (rk num c)) = di19 at hP hD hd1
        generalize lkB (lkF num cc0 1 (5 - (cc0 % 6)) 1 0) be1 ((gi num i).length) = be19 at hP hD hd1
        have hgl1 : (gi num i ++ lkL num cc0 1 (5 - cc0 % 6)).length ≤ 2 * i + 1 := by have := lkL_len num cc0 1 (5 - cc0 % 6); rw [List.length_append]; omega
        refine lv_aload_n hx hb dX0_listGaps_105 rfl (lv_at hl 1 rfl) ?_
        refine lv_iload_n hx hb dX0_listGaps_106 rfl (lv_at hl 2 rfl) ?_
        refine lv_iload_n hx hb dX0_listGaps_107 rfl (lv_at hl 0 rfl) ?_
        refine lv_bipush (v := nI 6) hx hb dX0_listGaps_108 (by decide) ?_
        refine lv_iconst (v := nI 5) hx hb dX0_listGaps_110 (by decide) ?_
        refine lv_iload_n hx hb dX0_listGaps_111 rfl (lv_at hl 0 rfl) ?_
        refine lv_bipush (v := nI 6) hx hb dX0_listGaps_112 (by decide) ?_
        refine nn_div hx hb (by omega) (by decide) (by decide) dX0_listGaps_114 ?_
        refine nn_sub hx hb (by omega) dX0_listGaps_115 ?_
        refine k_b_look (num := num) hC hK hP hD hS hA (by decide) hl.1 (Nat.le_of_ble_eq_true rfl) hix (by intro k hk; omega) (by omega) (by omega) dX0_listGaps_116 (fun  H locs _ hP hD hS => ?_)
        have hd2 := hdG_b hd1 hc3 6 (5 - cc0 / 6)
        have hl2 := (hdG_look hd1 num cc0 6 (5 - cc0 / 6)).2
        rw [← hl2] at hP hD
        generalize lkU (lkF num cc0 6 (5 - (cc0 / 6)) 1 0) ne19 ((gi num i ++ lkL num cc0 1 (5 - cc0 % 6)).length) (fun _ => nI i) = ne29 at hP hD hd2
        generalize lkU (lkF num cc0 6 (5 - (cc0 / 6)) 1 0) di19 ((gi num i ++ lkL num cc0 1 (5 - cc0 % 6)).length) (fun c => nI (rk num c)) = di29 at hP hD hd2
        generalize lkB (lkF num cc0 6 (5 - (cc0 / 6)) 1 0) be19 ((gi num i ++ lkL num cc0 1 (5 - cc0 % 6)).length) = be29 at hP hD hd2
        have eg : gi num (i + 1) = (gi num i ++ lkL num cc0 1 (5 - cc0 % 6)) ++ lkL num cc0 6 (5 - cc0 / 6) := by rw [gi_s, hcc]
        rw [← eg] at hP hD hd2
        refine lv_iinc (v := nI (i + 1)) (lv' := [(1, .int (nI (i + 1))), (2, .int (nI cc0)), (0, .ref h)]) hx hb dX0_listGaps_119 hl (k := 2) rfl (nI_1 _) (by decide) rfl (fun ls hl => ?_)
        refine lv_goto (tgt := 77) hx hb dX0_listGaps_122 (by decide) ?_
        exact ih (i + 1) co1 ix1 _ _ _ _ (by omega) ha hd2 (by omega) _ _ hP hD hS (lv_sub hl [2, 0] rfl)
  have lpA : ∀ (n : Nat) (c0 : Nat) (ix1 co1 : Nat → Int32) (ls : Array Slot), (c0 ≤ 36) → (lgA num c0 ix1 co1) → 36 < c0 + n → ∀ (H : Heap) (locs : List Loc), va_P D vwCl (bbW h a dI dJ vIs (nI (rk num c0)) vGc (bo false) vSc vLe fNu co1 ix1 fNe fDi fBe fCr fCw fDo fCh fNx) H → va_D A (bbW h a dI dJ vIs (nI (rk num c0)) vGc (bo false) vSc vLe fNu co1 ix1 fNe fDi fBe fCr fCw fDo fCh fNx) → va_S A s.heap H locs → lv_has ls 3 [(0, .ref h), (1, .int (nI c0))] → W p l e rm_b_listGaps s m ([.ref h] : List Value).toArray below meth c H locs 0 0 Q (F0 m 12 ls []) := by
    intro n
    induction n with
    | zero =>
      intro c0 ix1 co1 ls hc ha hfu
      exact absurd hfu (by omega)
    | succ n ih =>
      intro c0 ix1 co1 ls hc ha hfu H locs hP hD hS hl
      refine lv_iload_n hx hb dX0_listGaps_12 rfl (lv_at hl 1 rfl) ?_
      refine lv_bipush (v := nI 36) hx hb dX0_listGaps_13 (by decide) ?_
      refine nb_ge (tgt := 70) hx hb dX0_listGaps_15 (by decide) (by omega) (by omega) (fun c6 => ?_) (fun c6 => ?_)
      · obtain rfl : 36 = c0 := by omega
        refine lv_aload_n hx hb dX0_listGaps_70 rfl (lv_at hl 0 rfl) ?_
        refine lv_iconst (v := nI 0) hx hb dX0_listGaps_71 (by decide) ?_
        refine p0_gapCount hC hK hP hD hS dX0_listGaps_72 (fun H locs hP hD hS => ?_)
        refine lv_iconst (v := nI 0) hx hb dX0_listGaps_75 (by decide) ?_
        refine lv_istore_n (lv' := [(1, .int (nI 0)), (0, .ref h)]) hx hb dX0_listGaps_76 rfl hl (by decide) rfl (fun ls hl => ?_)
        exact lpB (rk num 36 + 1) 0 co1 ix1 _ _ _ _ (by omega) ha hdG_0 (by omega) _ _ hP hD hS (lv_sub hl [1, 0] rfl)
      · have hn8 := (hnu c0 c6).2
        have hrc := rk_le num c0
        refine lv_aload_n hx hb dX0_listGaps_18 rfl (lv_at hl 0 rfl) ?_
        refine g0_indexAt hC hK hP dX0_listGaps_19 ?_
        refine lv_iload_n hx hb dX0_listGaps_22 rfl (lv_at hl 1 rfl) ?_
        refine lv_iconst (v := (-1)) hx hb dX0_listGaps_23 (by decide) ?_
        refine s0_indexAt hC hK hP hD hS (by omega) dX0_listGaps_24 (fun H locs hP hD hS => ?_)
        refine lv_aload_n hx hb dX0_listGaps_25 rfl (lv_at hl 0 rfl) ?_
        refine g0_number hC hK hP dX0_listGaps_26 ?_
        refine lv_iload_n hx hb dX0_listGaps_29 rfl (lv_at hl 1 rfl) ?_
        refine l0_number hC hK hP (by omega) dX0_listGaps_30 ?_
        refine ct_i (y := nI (num c0)) ((hnu c0 c6).1) ?_
        refine nz_le (tgt := 64) hx hb dX0_listGaps_31 (by decide) (by omega) (fun c7 => ?_) (fun c7 => ?_)
        · refine lv_iinc (v := nI (c0 + 1)) (lv' := [(1, .int (nI (c0 + 1))), (0, .ref h)]) hx hb dX0_listGaps_64 hl (k := 1) rfl (nI_1 _) (by decide) rfl (fun ls hl => ?_)
          refine lv_goto (tgt := 12) hx hb dX0_listGaps_67 (by decide) ?_
          exact ih (c0 + 1) _ _ _ (by omega) (lgA_f ha c7) (by omega) _ _ (by rw [rk_f c7]; exact hP) (by rw [rk_f c7]; exact hD) hS (lv_sub hl [1, 0] rfl)
        · have hr7 : rk num c0 < 7 := Nat.lt_of_lt_of_le (rk_lt num c7 c6) h7
          refine lv_aload_n hx hb dX0_listGaps_34 rfl (lv_at hl 0 rfl) ?_
          refine g0_indexAt hC hK hP dX0_listGaps_35 ?_
          refine lv_iload_n hx hb dX0_listGaps_38 rfl (lv_at hl 1 rfl) ?_
          refine lv_aload_n hx hb dX0_listGaps_39 rfl (lv_at hl 0 rfl) ?_
          refine g0_listed hC hK hP dX0_listGaps_40 ?_
          refine s0_indexAt hC hK hP hD hS (by omega) dX0_listGaps_43 (fun H locs hP hD hS => ?_)
          refine lv_aload_n hx hb dX0_listGaps_44 rfl (lv_at hl 0 rfl) ?_
          refine g0_cellOf hC hK hP dX0_listGaps_45 ?_
          refine lv_aload_n hx hb dX0_listGaps_48 rfl (lv_at hl 0 rfl) ?_
          refine g0_listed hC hK hP dX0_listGaps_49 ?_
          refine lv_iload_n hx hb dX0_listGaps_52 rfl (lv_at hl 1 rfl) ?_
          refine s0_cellOf hC hK hP hD hS (by omega) dX0_listGaps_53 (fun H locs hP hD hS => ?_)
          refine lv_aload_n hx hb dX0_listGaps_54 rfl (lv_at hl 0 rfl) ?_
          refine lv_dup hx hb dX0_listGaps_55 rfl ?_
          refine g0_listed hC hK hP dX0_listGaps_56 ?_
          refine lv_iconst (v := nI 1) hx hb dX0_listGaps_59 (by decide) ?_
          refine nn_add hx hb dX0_listGaps_60 ?_
          refine p0_listed hC hK hP hD hS dX0_listGaps_61 (fun H locs hP hD hS => ?_)
          refine lv_iinc (v := nI (c0 + 1)) (lv' := [(1, .int (nI (c0 + 1))), (0, .ref h)]) hx hb dX0_listGaps_64 hl (k := 1) rfl (nI_1 _) (by decide) rfl (fun ls hl => ?_)
          refine lv_goto (tgt := 12) hx hb dX0_listGaps_67 (by decide) ?_
          exact ih (c0 + 1) _ _ _ (by omega) (lgA_t ha c7) (by omega) _ _ (by rw [rk_t c7]; exact hP) (by rw [rk_t c7]; exact hD) hS (lv_sub hl [1, 0] rfl)
  refine lv_aload_n hx hb dX0_listGaps_0 rfl (lv_at hl 0 rfl) ?_
  refine lv_iconst (v := nI 0) hx hb dX0_listGaps_1 (by decide) ?_
  refine ct_i (y := bo false) (rfl) ?_
  refine p0_solved hC hK hP hD hS rfl rfl dX0_listGaps_2 (fun H locs hP hD hS => ?_)
  refine lv_aload_n hx hb dX0_listGaps_5 rfl (lv_at hl 0 rfl) ?_
  refine lv_iconst (v := nI 0) hx hb dX0_listGaps_6 (by decide) ?_
  refine p0_listed hC hK hP hD hS dX0_listGaps_7 (fun H locs hP hD hS => ?_)
  refine lv_iconst (v := nI 0) hx hb dX0_listGaps_10 (by decide) ?_
  refine lv_istore_n (lv' := [(1, .int (nI 0)), (0, .ref h)]) hx hb dX0_listGaps_11 rfl hl (by decide) rfl (fun ls hl => ?_)
  exact lpA 37 0 _ _ _ (by omega) (fun j hj => by omega) (by omega) _ _ hP hD hS (lv_sub hl [1, 0] rfl)
theorem k_b_listGaps {p : Program} {l : Launch} {e : Env} {R : Room} {s : State} {m : MethodId} {args : Array Value} {below : List Frame} {meth : Method} {c : Code} {H : Heap} {locs : List Loc} {Q : State → Prop} {cc : ByteArray} {pc nL : Nat} {ls : Array Slot} {rest : List Value} {D : va_G} {A : Nat → Prop} {H0 : Heap} {h : Nat} {a : Nat → Nat} {dI dJ : ClassId} {vIs : Int32} {vLi : Int32} {vGc : Int32} {vSo : Int32} {vSc : Int32} {vLe : Int32} {fNu : Nat → Int32} {fCo : Nat → Int32} {fIx : Nat → Int32} {fNe : Nat → Int32} {fDi : Nat → Int32} {fBe : Nat → Int64} {fCr : Nat → Int32} {fCw : Nat → Int32} {fDo : Nat → Int32} {fCh : Nat → Int32} {fNx : Nat → Int32} {num : Nat → Nat} (hC : CallFix p m c cc nL s args lw_all RX0) (hK : va_K D vwCl (kB dI dJ) s) (hP : va_P D vwCl (bbW h a dI dJ vIs vLi vGc vSo vSc vLe fNu fCo fIx fNe fDi fBe fCr fCw fDo fCh fNx) H) (hD : va_D A (bbW h a dI dJ vIs vLi vGc vSo vSc vLe fNu fCo fIx fNe fDi fBe fCr fCw fDo fCh fNx)) (hS : va_S A H0 H locs) (hA : ∀ q, H0.size ≤ q → A q) (hR : rm_b_listGaps.frames + 1 ≤ R.frames ∧ 8 + (3 + 11) + rm_b_listGaps.locals ≤ R.locals) (hl : ls.size = nL) (hW : (rest.map fun v => v.category).sum ≤ 8) (hnu : ∀ c, c < 36 → fNu c = nI (num c) ∧ num c ≤ 8) (h7 : rk num 36 ≤ 7) (hdg : decode cc pc = .ok (.invokevirtual 44, 3)) (kk : ∀ (co1 : Nat → Int32) (ix1 : Nat → Int32) (ne1 : Nat → Int32) (di1 : Nat → Int32) (be1 : Nat → Int64) (cr1 : Nat → Int32) (H1 : Heap) (locs1 : List Loc), (LG num co1 ix1 ne1 di1 be1 cr1) → va_P D vwCl (bbW h a dI dJ vIs (nI (rk num 36)) (nI (gL num).length) (bo false) vSc vLe fNu co1 ix1 ne1 di1 be1 cr1 fCw fDo fCh fNx) H1 → va_D A (bbW h a dI dJ vIs (nI (rk num 36)) (nI (gL num).length) (bo false) vSc vLe fNu co1 ix1 ne1 di1 be1 cr1 fCw fDo fCh fNx) → va_S A H0 H1 locs1 → W p l e R s m args below meth c H1 locs1 0 0 Q (F0 m (pc + 3) ls rest)) : W p l e R s m args below meth c H locs 0 0 Q (F0 m pc ls (.ref h :: rest)) := km_v hC (t_b_listGaps l D h a dI dJ vIs vLi vGc vSo vSc vLe fNu fCo fIx fNe fDi fBe fCr fCw fDo fCh fNx num hnu h7 H.size) (cwV 0 hC.2.2.2.2 (lw_V q34 q36 qs0 q24 q37) rfl rfl rfl (by decide +kernel) hR) rfl rfl rfl hl rfl hW ⟨Nat.zero_le _, Nat.zero_le _⟩ hP hK hD hS hA hdg (fun u H1 locs1 a1 a2 a3 a4 => kk u.1 u.2.1 u.2.2.1 u.2.2.2.1 u.2.2.2.2.1 u.2.2.2.2.2 H1 locs1 a1 a2 a3 a4)
end
section
/-! what both classes answer, as plain functions of the board -/
def nrC (num : Nat → Nat) (g : Nat) : Nat := ((gL num).getD g (0, 0, 0)).1
def frC (num : Nat → Nat) (g : Nat) : Nat := ((gL num).getD g (0, 0, 0)).2.1
def mkC (num : Nat → Nat) (g : Nat) : Int64 := ((gL num).getD g (0, 0, 0)).2.2
def nrF (num : Nat → Nat) (g : Nat) : Nat := rk num (nrC num g)
def dsF (num : Nat → Nat) (g : Nat) : Nat := rk num (frC num g)
def duF (num : Nat → Nat) (i : Nat) : Nat := num (co num i)
def crF (num : Nat → Nat) (g h : Nat) : Bool := decide (h ≠ g) && decide (¬ mkC num g &&& mkC num h = 0)
/-- a solution, as the reference has it -/
def mSm (num f : Nat → Nat) (c n : Nat) : Nat := sumT (fun g => if nrC num g = c ∨ frC num g = c then f g else 0) n
def mSum (num f : Nat → Nat) : Bool := (List.range 36).all (fun c => (if 0 < num c then mSm num f c (gL num).length else 0) == num c)
def mAp1 (num f : Nat → Nat) (g h : Nat) : Bool := decide (mkC num g &&& mkC num h = 0) || decide (f g = 0) || decide (f h = 0)
def mApt (num f : Nat → Nat) : Bool := (List.range (gL num).length).all (fun g => (List.range g).all (fun h => mAp1 num f g h))
def setB (re : Nat → Bool) (c : Nat) : Nat → Bool := fun j => if j = c then true else re j
def mR0 (num : Nat → Nat) : Nat → Bool := fun c => decide (0 < num c) && decide (rk num c = 0)
def mj1 (num f : Nat → Nat) (g : Nat) (re : Nat → Bool) : Nat → Bool := if 0 < f g ∧ (re (nrC num g) || re (frC num g)) then setB (setB re (nrC num g)) (frC num g) else re
def mjL (num f : Nat → Nat) : Nat → Nat → (Nat → Bool) → (Nat → Bool)
  | 0, _, re => re
  | n + 1, g, re => mjL num f n (g + 1) (mj1 num f g re)
def mjs (num f : Nat → Nat) : Nat → (Nat → Bool) → (Nat → Bool)
  | 0, re => re
  | k + 1, re => mjs num f k (mjL num f (gL num).length 0 re)
def mJoi (num f : Nat → Nat) : Bool := (List.range 36).all (fun c => decide (num c = 0) || mjs num f 7 (mR0 num) c)
def mSol (num f : Nat → Nat) : Bool := mSum num f && (mApt num f && mJoi num f)
def asg : Nat → List (List Nat)
  | 0 => [[]]
  | n + 1 => (asg n).map (0 :: ·) ++ ((asg n).map (1 :: ·) ++ (asg n).map (2 :: ·))
def fnL (a : List Nat) : Nat → Nat := fun g => a.getD g 0
def sols (num : Nat → Nat) : List (List Nat) := (asg (gL num).length).filter (fun a => mSol num (fnL a))
def cnW (num : Nat → Nat) (g b : Nat) : Nat := (sols num).countP (fun a => fnL a g == b)
/-- what the search leaves -/
def Rt (num : Nat → Nat) (sc le : Int32) (cw : Nat → Int32) : Prop :=
  sc = nI (sols num).length ∧ (∀ g b, g < (gL num).length → b < 3 → cw (3 * g + b) = nI (cnW num g b)) ∧ ∀ a, (sols num).head? = some a → ∀ g, g < (gL num).length → lw le g = fnL a g
def SrOK (num : Nat → Nat) : Prop := ∃ Inv : Sg → Prop, okS (gL num).length (rk num 36) (nrF num) (dsF num) (duF num) (crF num) Inv ∧ ∀ fDo fCh fNx fCw, Inv (st0 (gL num).length (rk num 36) (nrF num) (dsF num) (duF num) (crF num) fDo fCh fNx fCw) ∧
  Rt num (run (gL num).length (rk num 36) (nrF num) (dsF num) (duF num) (crF num) 60000 (st0 (gL num).length (rk num 36) (nrF num) (dsF num) (duF num) (crF num) fDo fCh fNx fCw)).2.2.2.2.2.2.1 (run (gL num).length (rk num 36) (nrF num) (dsF num) (duF num) (crF num) 60000 (st0 (gL num).length (rk num 36) (nrF num) (dsF num) (duF num) (crF num) fDo fCh fNx fCw)).2.2.2.2.2.2.2 (run (gL num).length (rk num 36) (nrF num) (dsF num) (duF num) (crF num) 60000 (st0 (gL num).length (rk num 36) (nrF num) (dsF num) (duF num) (crF num) fDo fCh fNx fCw)).2.2.2.2.2.1
/-- the answers -/
def cel (x y : Int32) : Nat := 6 * x.toNatClampNeg + y.toNatClampNeg
def setN (num : Nat → Nat) (c v : Nat) : Nat → Nat := fun j => if j = c then v else num j
def okP (num : Nat → Nat) (x y z : Int32) : Bool := (onb x y && (decide (1 ≤ z) && decide (z ≤ 8))) && (decide (0 < num (cel x y)) || decide (rk num 36 < 7))
def nuP (num : Nat → Nat) (x y z : Int32) : Nat → Nat := if okP num x y z then setN num (cel x y) z.toNatClampNeg else num
def rsP (num : Nat → Nat) (x y z : Int32) : Int32 := if okP num x y z then nI (rk (nuP num x y z) 36) else -1
def okR (num : Nat → Nat) (x y : Int32) : Bool := onb x y && decide (0 < num (cel x y))
def nuR (num : Nat → Nat) (x y : Int32) : Nat → Nat := if okR num x y then setN num (cel x y) 0 else num
def rsR (num : Nat → Nat) (x y : Int32) : Int32 := if okR num x y then nI (rk (nuR num x y) 36) else -1
def rsI (num : Nat → Nat) (x y : Int32) : Int32 := if onb x y then nI (num (cel x y)) else -1
def rsE (num : Nat → Nat) (x : Int32) (fb : Bool) : Int32 := if x < 0 then -1 else if (gL num).length ≤ x.toNatClampNeg then -1 else nI (if fb then frC num x.toNatClampNeg else nrC num x.toNatClampNeg)
def rsS (num : Nat → Nat) : Int32 := if 8 < (gL num).length then -2 else nI (sols num).length
def lst (num : Nat → Nat) (g : Nat) : Int32 := match (sols num).head? with
  | none => -1
  | some a => nI (fnL a g)
def rsL (num : Nat → Nat) (x : Int32) : Int32 := if 8 < (gL num).length then -2 else if x < 0 then -1 else if (gL num).length ≤ x.toNatClampNeg then -1 else lst num x.toNatClampNeg
def alw (num : Nat → Nat) (g : Nat) : Int32 := if 0 < (sols num).length ∧ cnW num g 0 = (sols num).length then nI 0 else if 0 < (sols num).length ∧ cnW num g 1 = (sols num).length then nI 1 else if 0 < (sols num).length ∧ cnW num g 2 = (sols num).length then nI 2 else -1
def rsA (num : Nat → Nat) (x : Int32) : Int32 := if 8 < (gL num).length then -2 else if x < 0 then -1 else if (gL num).length ≤ x.toNatClampNeg then -1 else alw num x.toNatClampNeg
def rsW (num : Nat → Nat) (x y : Int32) : Int32 := if 8 < (gL num).length then -2 else if x < 0 then -1 else if (gL num).length ≤ x.toNatClampNeg then -1 else if y < 0 ∨ 2 < y then -1 else nI (cnW num x.toNatClampNeg y.toNatClampNeg)
/-- BridgeBoard's cells hold the board num -/
def BBok (num : Nat → Nat) (vIs vLi vGc vSo vSc vLe : Int32) (fNu fCo fIx fNe fDi : Nat → Int32) (fBe : Nat → Int64) (fCr fCw : Nat → Int32) : Prop :=
  (∀ c, c < 36 → fNu c = nI (num c) ∧ num c ≤ 8) ∧ rk num 36 ≤ 7 ∧ vIs = nI (rk num 36) ∧ vLi = nI (rk num 36) ∧ vGc = nI (gL num).length ∧ LG num fCo fIx fNe fDi fBe fCr ∧ ∃ so, vSo = bo so ∧ (so = true → (gL num).length ≤ 8 → Rt num vSc vLe fCw)
theorem onb_spec {x y : Int32} (h : onb x y = true) : ∃ r q : Nat, r < 6 ∧ q < 6 ∧ x = nI r ∧ y = nI q := by
  unfold onb at h
  simp only [Bool.and_eq_true, decide_eq_true_eq] at h
  obtain ⟨⟨⟨h1, h2⟩, h3⟩, h4⟩ := h
  obtain ⟨r, hr, e1⟩ := nI_of (Int32.not_lt.mpr h1)
  obtain ⟨q, hq, e2⟩ := nI_of (Int32.not_lt.mpr h3)
  subst e1; subst e2
  refine ⟨r, q, ?_, ?_, rfl, rfl⟩
  · exact (nI_ltI hr (by decide)).mp h2
  · exact (nI_ltI hq (by decide)).mp h4
theorem onb_nI {r q : Nat} (hr : r < 6) (hq : q < 6) : onb (nI r) (nI q) = true := by
  unfold onb
  simp only [Bool.and_eq_true, decide_eq_true_eq]
  exact ⟨⟨⟨nI_pos' (by omega), (nI_ltI (b := 6) (by omega) (by decide)).mpr hr⟩, nI_pos' (by omega)⟩, (nI_ltI (b := 6) (by omega) (by decide)).mpr hq⟩
theorem cel_nI {r q : Nat} (hr : r < 6) (hq : q < 6) : cel (nI r) (nI q) = 6 * r + q := by
  unfold cel
  rw [nI_clamp (by omega), nI_clamp (by omega)]
theorem okP_f1 {num : Nat → Nat} {x y z : Int32} (h : onb x y = false) : okP num x y z = false := by simp [okP, h]
theorem okP_f2 {num : Nat → Nat} {x y z : Int32} (h : z < nI 1) : okP num x y z = false := by
  have h1 : ¬ (1 : Int32) ≤ z := Int32.not_le.mpr h
  simp [okP, h1]
theorem okP_f3 {num : Nat → Nat} {x y z : Int32} (h : ¬ z ≤ nI 8) : okP num x y z = false := by
  have h1 : ¬ z ≤ (8 : Int32) := h
  simp [okP, h1]
theorem okP_v {num : Nat → Nat} {r q k : Nat} (hr : r < 6) (hq : q < 6) (h1 : 1 ≤ k) (h8 : k ≤ 8) : okP num (nI r) (nI q) (nI k) = (decide (0 < num (6 * r + q)) || decide (rk num 36 < 7)) := by
  have e1 : (1 : Int32) ≤ nI k := (nI_leI (a := 1) (b := k) (by decide) (by omega)).mpr h1
  have e2 : nI k ≤ (8 : Int32) := (nI_leI (a := k) (b := 8) (by omega) (by decide)).mpr h8
  rw [okP, onb_nI hr hq, cel_nI hr hq, decide_eq_true e1, decide_eq_true e2]
  simp
theorem rsP_f {num : Nat → Nat} {x y z : Int32} (h : okP num x y z = false) : rsP num x y z = -1 ∧ nuP num x y z = num := by
  constructor
  · rw [rsP, h]; rfl
  · rw [nuP, h]; rfl
theorem rsP_t {num : Nat → Nat} {r q k : Nat} (hr : r < 6) (hq : q < 6) (h1 : 1 ≤ k) (h8 : k ≤ 8) (h : 0 < num (6 * r + q) ∨ rk num 36 < 7) : nuP num (nI r) (nI q) (nI k) = setN num (6 * r + q) k ∧ rsP num (nI r) (nI q) (nI k) = nI (rk (setN num (6 * r + q) k) 36) := by
  have e : okP num (nI r) (nI q) (nI k) = true := by
    rw [okP_v hr hq h1 h8]
    rcases h with h | h
    · simp [h]
    · simp [h]
  have e2 : nuP num (nI r) (nI q) (nI k) = setN num (6 * r + q) k := by
    rw [nuP, e, if_pos rfl, cel_nI hr hq, nI_clamp (by omega)]
  exact ⟨e2, by rw [rsP, e, if_pos rfl, e2]⟩
theorem rsR_f {num : Nat → Nat} {x y : Int32} (h : okR num x y = false) : rsR num x y = -1 ∧ nuR num x y = num := by
  constructor
  · rw [rsR, h]; rfl
  · rw [nuR, h]; rfl
theorem okR_v {num : Nat → Nat} {r q : Nat} (hr : r < 6) (hq : q < 6) : okR num (nI r) (nI q) = decide (0 < num (6 * r + q)) := by
  rw [okR, onb_nI hr hq, cel_nI hr hq]; simp
theorem rsR_t {num : Nat → Nat} {r q : Nat} (hr : r < 6) (hq : q < 6) (h : 0 < num (6 * r + q)) : nuR num (nI r) (nI q) = setN num (6 * r + q) 0 ∧ rsR num (nI r) (nI q) = nI (rk (setN num (6 * r + q) 0) 36) := by
  have e : okR num (nI r) (nI q) = true := by rw [okR_v hr hq]; simp [h]
  have e2 : nuR num (nI r) (nI q) = setN num (6 * r + q) 0 := by rw [nuR, e, if_pos rfl, cel_nI hr hq]
  exact ⟨e2, by rw [rsR, e, if_pos rfl, e2]⟩
theorem setN_s {num : Nat → Nat} {c v : Nat} : setN num c v c = v := if_pos rfl
theorem setN_n {num : Nat → Nat} {c v j : Nat} (h : j ≠ c) : setN num c v j = num j := if_neg h
theorem rk_setN (num : Nat → Nat) (c v n : Nat) : rk (setN num c v) n + (if c < n ∧ 0 < num c then 1 else 0) = rk num n + (if c < n ∧ 0 < v then 1 else 0) := by
  induction n with
  | zero => simp [rk]
  | succ n ih =>
    unfold rk
    by_cases e : n = c
    · subst e
      rw [setN_s]
      simp at ih
      by_cases h1 : 0 < num n <;> by_cases h2 : 0 < v <;> simp [h1, h2] <;> omega
    · rw [setN_n e]
      have e1 : (c < n + 1) ↔ c < n := by omega
      simp only [e1]
      split <;> omega
/-- the gaps' ends are islands -/
theorem lkF_ok (num : Nat → Nat) (c st : Nat) : ∀ n k m q, lkF num c st n k m = some q → ∃ j, k ≤ j ∧ j < k + n ∧ q.1 = c + st * j ∧ 0 < num q.1 := by
  intro n
  induction n with
  | zero => intro k m q h; simp [lkF] at h
  | succ n ih =>
    intro k m q h
    unfold lkF at h
    by_cases z : 0 < num (c + st * k)
    · rw [if_pos z] at h
      cases h
      exact ⟨k, by omega, by omega, rfl, z⟩
    · rw [if_neg z] at h
      obtain ⟨j, h1, h2, h3⟩ := ih _ _ _ h
      exact ⟨j, by omega, by omega, h3⟩
def gOK (num : Nat → Nat) (q : Gp) : Prop := q.1 < 36 ∧ 0 < num q.1 ∧ q.2.1 < 36 ∧ 0 < num q.2.1 ∧ q.1 < q.2.1
theorem lkL_ok {num : Nat → Nat} {c st room : Nat} (hs : 0 < st) (hc : c < 36) (h0 : 0 < num c) (hr : ∀ j, j ≤ room → c + st * j < 36) : ∀ q ∈ lkL num c st room, gOK num q := by
  intro q hq
  unfold lkL at hq
  rw [List.mem_map] at hq
  obtain ⟨a, ha, rfl⟩ := hq
  rw [Option.mem_toList] at ha
  obtain ⟨j, h1, h2, h3, h4⟩ := lkF_ok num c st room 1 0 a ha
  have h5 := hr j (by omega)
  have h6 : st * 1 ≤ st * j := Nat.mul_le_mul_left _ h1
  refine ⟨hc, h0, ?_, h4, ?_⟩
  · show a.1 < 36; omega
  · show c < a.1; omega
theorem gi_ok {num : Nat → Nat} : ∀ i, i ≤ rk num 36 → ∀ q ∈ gi num i, gOK num q := by
  intro i
  induction i with
  | zero => intro _ q hq; simp [gi] at hq
  | succ i ih =>
    intro hi q hq
    rw [gi_s] at hq
    obtain ⟨h1, h2, h3⟩ := co_spec num (show i < rk num 36 by omega)
    rcases List.mem_append.mp hq with hq | hq
    · rcases List.mem_append.mp hq with hq | hq
      · exact ih (by omega) q hq
      · exact lkL_ok (by omega) h1 h2 (fun j hj => by omega) q hq
    · exact lkL_ok (by omega) h1 h2 (fun j hj => by omega) q hq
theorem gL_at {num : Nat → Nat} {g : Nat} (h : g < (gL num).length) : (gL num)[g]? = some (nrC num g, frC num g, mkC num g) := by
  unfold nrC frC mkC
  rw [List.getD_eq_getElem?_getD, List.getElem?_eq_getElem h]; rfl
theorem gL_ok {num : Nat → Nat} {g : Nat} (h : g < (gL num).length) : nrC num g < 36 ∧ 0 < num (nrC num g) ∧ frC num g < 36 ∧ 0 < num (frC num g) ∧ nrC num g < frC num g :=
  gi_ok (rk num 36) (Nat.le_refl _) _ (List.mem_of_getElem? (gL_at h))
theorem asg_len (n : Nat) : (asg n).length = 3 ^ n := by
  induction n with
  | zero => rfl
  | succ n ih => simp only [asg, List.length_append, List.length_map, ih, Nat.pow_succ]; omega
theorem sols_le {num : Nat → Nat} (h : (gL num).length ≤ 8) : (sols num).length ≤ 6561 := by
  have h1 : (sols num).length ≤ (asg (gL num).length).length := List.length_filter_le _ _
  rw [asg_len] at h1
  have h2 : 3 ^ (gL num).length ≤ 3 ^ 8 := Nat.pow_le_pow_right (by omega) h
  omega
theorem cnW_le (num : Nat → Nat) (g b : Nat) : cnW num g b ≤ (sols num).length := List.countP_le_length
theorem bbI_of {num : Nat → Nat} {fNu fCo fIx fNe fDi : Nat → Int32} {fBe : Nat → Int64} {fCr : Nat → Int32} (hnu : ∀ c, c < 36 → fNu c = nI (num c) ∧ num c ≤ 8) (h7 : rk num 36 ≤ 7) (h8 : (gL num).length ≤ 8) (h : LG num fCo fIx fNe fDi fBe fCr) :
    bbI (gL num).length (rk num 36) (nrF num) (dsF num) (duF num) (crF num) fNu fCo fNe fDi fCr := by
  obtain ⟨h1, h2, h3, h4⟩ := h
  refine ⟨h8, h7, fun g hg => ?_, fun i hi => ?_, fun g k hg hk => ?_⟩
  · obtain ⟨a1, a2, a3, a4, a5⟩ := gL_ok hg
    obtain ⟨b1, b2, b3⟩ := h3 g _ (gL_at hg)
    exact ⟨b1, b2, rk_lt num a2 a1, rk_lt num a4 a3⟩
  · obtain ⟨a1, a2, a3⟩ := co_spec num hi
    have := h1 _ a1 a2
    rw [a3] at this
    exact ⟨co num i, a1, this, (hnu _ a1).1, (hnu _ a1).2⟩
  · rw [h4 g hg, cxv_bt _ _ _ (by omega) _ (by omega)]
    obtain ⟨-, -, b3⟩ := h3 g _ (gL_at hg)
    obtain ⟨-, -, c3⟩ := h3 k _ (gL_at hk)
    rw [b3, c3]
    simp only [crF, hk, decide_true, Bool.true_and]
end
section
theorem nu_set {num : Nat → Nat} {fNu : Nat → Int32} (hnu : ∀ c, c < 36 → fNu c = nI (num c) ∧ num c ≤ 8) {c0 k : Nat} (hk : k ≤ 8) : ∀ c, c < 36 → upd fNu c0 (nI k) c = nI (setN num c0 k c) ∧ setN num c0 k c ≤ 8 := by
  intro c hc
  by_cases e : c = c0
  · subst e
    rw [pk_us, setN_s]
    exact ⟨rfl, hk⟩
  · rw [pk_un e, setN_n e]
    exact hnu c hc
theorem alw_at {num : Nat → Nat} {g b : Nat} (hb : b < 3) (hs : ∀ j, j < b → ¬ (0 < (sols num).length ∧ cnW num g j = (sols num).length)) (h : 0 < (sols num).length ∧ cnW num g b = (sols num).length) : alw num g = nI b := by
  unfold alw
  rcases (show b = 0 ∨ b = 1 ∨ b = 2 by omega) with rfl | rfl | rfl
  · rw [if_pos h]
  · rw [if_neg (hs 0 (by omega)), if_pos h]
  · rw [if_neg (hs 0 (by omega)), if_neg (hs 1 (by omega)), if_pos h]
theorem alw_no {num : Nat → Nat} {g : Nat} (hs : ∀ j, j < 3 → ¬ (0 < (sols num).length ∧ cnW num g j = (sols num).length)) : alw num g = -1 := by
  unfold alw
  rw [if_neg (hs 0 (by omega)), if_neg (hs 1 (by omega)), if_neg (hs 2 (by omega))]
theorem rk_pset {num : Nat → Nat} {c k : Nat} (hc : c < 36) (hk : 0 < k) (h : 0 < num c) : rk (setN num c k) 36 = rk num 36 := by
  have := rk_setN num c k 36
  simp [hc, hk, h] at this
  exact this
theorem rk_pnew {num : Nat → Nat} {c k : Nat} (hc : c < 36) (hk : 0 < k) (h : num c = 0) : rk (setN num c k) 36 = rk num 36 + 1 := by
  have := rk_setN num c k 36
  simp [hc, hk, h] at this
  exact this
theorem rk_prem {num : Nat → Nat} {c : Nat} (hc : c < 36) (h : 0 < num c) : rk (setN num c 0) 36 + 1 = rk num 36 := by
  have := rk_setN num c 0 36
  simp [hc, h] at this
  exact this
end
section
/-! BridgeBoard: public methods -/
abbrev rm_b_place : Room := { frames := 2, cells := 0, slots := 0, locals := 50 }
set_option maxHeartbeats 4000000 in
set_option maxRecDepth 100000 in
/-- place -/
theorem t_b_place (l : Launch) (D : va_G) (h : Nat) (a : Nat → Nat) (dI dJ : ClassId) (vIs : Int32) (vLi : Int32) (vGc : Int32) (vSo : Int32) (vSc : Int32) (vLe : Int32) (fNu : Nat → Int32) (fCo : Nat → Int32) (fIx : Nat → Int32) (fNe : Nat → Int32) (fDi : Nat → Int32) (fBe : Nat → Int64) (fCr : Nat → Int32) (fCw : Nat → Int32) (fDo : Nat → Int32) (fCh : Nat → Int32) (fNx : Nat → Int32) (num : Nat → Nat) (x y z : Int32) (hB : BBok num vIs vLi vGc vSo vSc vLe fNu fCo fIx fNe fDi fBe fCr fCw) (sz : Nat) : Met l yX0_place (ws_ yX0_place cX0_place 5 (some .int)) rm_b_place (cP D (kB dI dJ) (bbW h a dI dJ vIs vLi vGc vSo vSc vLe fNu fCo fIx fNe fDi fBe fCr fCw fDo fCh fNx) sz [.ref h, .int x, .int y, .int z]) (cQi D (kB dI dJ) (bbW h a dI dJ vIs vLi vGc vSo vSc vLe fNu fCo fIx fNe fDi fBe fCr fCw fDo fCh fNx) sz (fun (r : Int32) (u : (Int32) × (Int32) × (Int32) × (Int32) × (Int32) × (Int32) × (Nat → Int32) × (Nat → Int32) × (Nat → Int32) × (Nat → Int32) × (Nat → Int32) × (Nat → Int64) × (Nat → Int32) × (Nat → Int32) × (Nat → Int32) × (Nat → Int32) × (Nat → Int32)) => BBok (nuP num x y z) u.1 u.2.1 u.2.2.1 u.2.2.2.1 u.2.2.2.2.1 u.2.2.2.2.2.1 u.2.2.2.2.2.2.1 u.2.2.2.2.2.2.2.1 u.2.2.2.2.2.2.2.2.1 u.2.2.2.2.2.2.2.2.2.1 u.2.2.2.2.2.2.2.2.2.2.1 u.2.2.2.2.2.2.2.2.2.2.2.1 u.2.2.2.2.2.2.2.2.2.2.2.2.1 u.2.2.2.2.2.2.2.2.2.2.2.2.2.1 ∧ r = rsP num x y z) (fun (u : (Int32) × (Int32) × (Int32) × (Int32) × (Int32) × (Int32) × (Nat → Int32) × (Nat → Int32) × (Nat → Int32) × (Nat → Int32) × (Nat → Int32) × (Nat → Int64) × (Nat → Int32) × (Nat → Int32) × (Nat → Int32) × (Nat → Int32) × (Nat → Int32)) => bbW h a dI dJ u.1 u.2.1 u.2.2.1 u.2.2.2.1 u.2.2.2.2.1 u.2.2.2.2.2.1 u.2.2.2.2.2.2.1 u.2.2.2.2.2.2.2.1 u.2.2.2.2.2.2.2.2.1 u.2.2.2.2.2.2.2.2.2.1 u.2.2.2.2.2.2.2.2.2.2.1 u.2.2.2.2.2.2.2.2.2.2.2.1 u.2.2.2.2.2.2.2.2.2.2.2.2.1 u.2.2.2.2.2.2.2.2.2.2.2.2.2.1 u.2.2.2.2.2.2.2.2.2.2.2.2.2.2.1 u.2.2.2.2.2.2.2.2.2.2.2.2.2.2.2.1 u.2.2.2.2.2.2.2.2.2.2.2.2.2.2.2.2)) 0 0 (va_A (bbW h a dI dJ vIs vLi vGc vSo vSc vLe fNu fCo fIx fNe fDi fBe fCr fCw fDo fCh fNx) sz) := by
  refine en_i (by decide) (Nat.le_of_ble_eq_true rfl) ?_
  intro p e s m below meth c ls Q A hC hP hK hD hA hS hl hret
  have hC : CallFix p m c cX0_place 5 s _ lw_all RX0 := hC
  have hx := hC.1
  have hb := hC.2.1
  have hl : lv_has ls 5 [(0, .ref h), (1, .int x), (2, .int y), (3, .int z)] := hl
  obtain ⟨hnu, h7, rfl, rfl, rfl, hLG, so, rfl, hRt⟩ := hB
  have h14 := gL_len h7
  refine lv_iload_n hx hb dX0_place_0 rfl (lv_at hl 1 rfl) ?_
  refine lv_iload_n hx hb dX0_place_1 rfl (lv_at hl 2 rfl) ?_
  refine k_b_onBoard  hC hK (by decide) hl.1 (Nat.le_of_ble_eq_true rfl)  dX0_place_2 ?_
  refine bz_eq (tgt := 19) hx hb dX0_place_5 (by decide) (fun c1 => ?_) (fun c1 => ?_)
  · refine lv_iconst (v := (-1)) hx hb dX0_place_19 (by decide) ?_
    exact hret _ _ 20 _ _ (nI (rk num 36), nI (rk num 36), nI (gL num).length, bo so, vSc, vLe, fNu, fCo, fIx, fNe, fDi, fBe, fCr, fCw, fDo, fCh, fNx) dX0_place_20 (by rw [(rsP_f (okP_f1 c1)).1, (rsP_f (okP_f1 c1)).2]; exact ⟨⟨hnu, h7, rfl, rfl, rfl, hLG, so, rfl, hRt⟩, rfl⟩) hP hD hS
  · refine lv_iload_n hx hb dX0_place_8 rfl (lv_at hl 3 rfl) ?_
    refine lv_iconst (v := nI 1) hx hb dX0_place_9 (by decide) ?_
    refine lv_icmp_lt (tgt := 19) hx hb dX0_place_10 (by decide) (fun c2 => ?_) (fun c2 => ?_)
    · refine lv_iconst (v := (-1)) hx hb dX0_place_19 (by decide) ?_
      exact hret _ _ 20 _ _ (nI (rk num 36), nI (rk num 36), nI (gL num).length, bo so, vSc, vLe, fNu, fCo, fIx, fNe, fDi, fBe, fCr, fCw, fDo, fCh, fNx) dX0_place_20 (by rw [(rsP_f (okP_f2 c2)).1, (rsP_f (okP_f2 c2)).2]; exact ⟨⟨hnu, h7, rfl, rfl, rfl, hLG, so, rfl, hRt⟩, rfl⟩) hP hD hS
    · refine lv_iload_n hx hb dX0_place_13 rfl (lv_at hl 3 rfl) ?_
      refine lv_bipush (v := nI 8) hx hb dX0_place_14 (by decide) ?_
      refine lv_icmp_le (tgt := 21) hx hb dX0_place_16 (by decide) (fun c3 => ?_) (fun c3 => ?_)
      · obtain ⟨r0, q0, hr0, hq0, rfl, rfl⟩ := onb_spec c1
        obtain ⟨k0, hk0, rfl⟩ := nI_of (x := z) (fun q => c2 (Int32.lt_of_lt_of_le q (by decide)))
        have hk1 : 1 ≤ k0 := Nat.not_lt.mp (fun q => c2 ((nI_ltI hk0 (by decide)).mpr q))
        have hk8 : k0 ≤ 8 := (nI_leI hk0 (by decide)).mp c3
        have hcc : 6 * r0 + q0 < 36 := by omega
        have hn8 := (hnu (6 * r0 + q0) hcc).2
        refine lv_bipush (v := nI 6) hx hb dX0_place_21 (by decide) ?_
        refine lv_iload_n hx hb dX0_place_23 rfl (lv_at hl 1 rfl) ?_
        refine nn_mul hx hb dX0_place_24 ?_
        refine lv_iload_n hx hb dX0_place_25 rfl (lv_at hl 2 rfl) ?_
        refine nn_add hx hb dX0_place_26 ?_
        refine lv_istore (lv' := [(4, .int (nI ((6 * r0) + q0))), (0, .ref h), (1, .int (nI r0)), (2, .int (nI q0)), (3, .int (nI k0))]) hx hb dX0_place_27 hl (by decide) rfl (fun ls hl => ?_)
        refine lv_aload_n hx hb dX0_place_29 rfl (lv_at hl 1 rfl) ?_
        refine g0_number hC hK hP dX0_place_30 ?_
        refine lv_iload hx hb dX0_place_33 (lv_at hl 0 rfl) ?_
        refine l0_number hC hK hP (by omega) dX0_place_35 ?_
        refine ct_i (y := nI (num (6 * r0 + q0))) ((hnu (6 * r0 + q0) hcc).1) ?_
        refine nz_ne (tgt := 60) hx hb dX0_place_36 (by decide) (by omega) (fun c4 => ?_) (fun c4 => ?_)
        · have erk : rk (setN num (6 * r0 + q0) k0) 36 = rk num 36 := rk_pset hcc hk1 (by omega)
          have h71 : rk (setN num (6 * r0 + q0) k0) 36 ≤ 7 := by omega
          refine lv_aload_n hx hb dX0_place_60 rfl (lv_at hl 1 rfl) ?_
          refine g0_number hC hK hP dX0_place_61 ?_
          refine lv_iload hx hb dX0_place_64 (lv_at hl 0 rfl) ?_
          refine lv_iload_n hx hb dX0_place_66 rfl (lv_at hl 4 rfl) ?_
          refine s0_number hC hK hP hD hS (by omega) dX0_place_67 (fun H locs hP hD hS => ?_)
          refine lv_aload_n hx hb dX0_place_68 rfl (lv_at hl 1 rfl) ?_
          refine k_b_listGaps (num := (setN num (6 * r0 + q0) k0)) hC hK hP hD hS hA (by decide) hl.1 (Nat.le_of_ble_eq_true rfl) (nu_set hnu hk8) h71 dX0_place_69 (fun co1 ix1 ne1 di1 be1 cr1 H locs hLG1 hP hD hS => ?_)
          refine lv_aload_n hx hb dX0_place_72 rfl (lv_at hl 1 rfl) ?_
          refine g0_islands hC hK hP dX0_place_73 ?_
          obtain ⟨e1, e2⟩ := rsP_t (num := num) hr0 hq0 hk1 hk8 (Or.inl (by omega))
          exact hret _ _ 76 _ _ (nI (rk num 36), nI (rk (setN num (6 * r0 + q0) k0) 36), nI (gL (setN num (6 * r0 + q0) k0)).length, bo false, vSc, vLe, upd fNu ((6 * r0) + q0) (nI k0), co1, ix1, ne1, di1, be1, cr1, fCw, fDo, fCh, fNx) dX0_place_76 (by rw [e1, e2]; exact ⟨⟨nu_set hnu hk8, h71, congrArg nI erk.symm, rfl, rfl, hLG1, false, rfl, fun h => by cases h⟩, congrArg nI erk.symm⟩) hP hD hS
        · refine lv_aload_n hx hb dX0_place_39 rfl (lv_at hl 1 rfl) ?_
          refine g0_islands hC hK hP dX0_place_40 ?_
          refine lv_bipush (v := nI 7) hx hb dX0_place_43 (by decide) ?_
          refine nb_lt (tgt := 50) hx hb dX0_place_45 (by decide) (by omega) (by omega) (fun c5 => ?_) (fun c5 => ?_)
          · have erk : rk (setN num (6 * r0 + q0) k0) 36 = rk num 36 + 1 := rk_pnew hcc hk1 c4
            have h71 : rk (setN num (6 * r0 + q0) k0) 36 ≤ 7 := by omega
            refine lv_aload_n hx hb dX0_place_50 rfl (lv_at hl 1 rfl) ?_
            refine lv_dup hx hb dX0_place_51 rfl ?_
            refine g0_islands hC hK hP dX0_place_52 ?_
            refine lv_iconst (v := nI 1) hx hb dX0_place_55 (by decide) ?_
            refine nn_add hx hb dX0_place_56 ?_
            refine p0_islands hC hK hP hD hS dX0_place_57 (fun H locs hP hD hS => ?_)
            refine lv_aload_n hx hb dX0_place_60 rfl (lv_at hl 1 rfl) ?_
            refine g0_number hC hK hP dX0_place_61 ?_
            refine lv_iload hx hb dX0_place_64 (lv_at hl 0 rfl) ?_
            refine lv_iload_n hx hb dX0_place_66 rfl (lv_at hl 4 rfl) ?_
            refine s0_number hC hK hP hD hS (by omega) dX0_place_67 (fun H locs hP hD hS => ?_)
            refine lv_aload_n hx hb dX0_place_68 rfl (lv_at hl 1 rfl) ?_
            refine k_b_listGaps (num := (setN num (6 * r0 + q0) k0)) hC hK hP hD hS hA (by decide) hl.1 (Nat.le_of_ble_eq_true rfl) (nu_set hnu hk8) h71 dX0_place_69 (fun co1 ix1 ne1 di1 be1 cr1 H locs hLG1 hP hD hS => ?_)
            refine lv_aload_n hx hb dX0_place_72 rfl (lv_at hl 1 rfl) ?_
            refine g0_islands hC hK hP dX0_place_73 ?_
            obtain ⟨e1, e2⟩ := rsP_t (num := num) hr0 hq0 hk1 hk8 (Or.inr c5)
            exact hret _ _ 76 _ _ (nI ((rk num 36) + 1), nI (rk (setN num (6 * r0 + q0) k0) 36), nI (gL (setN num (6 * r0 + q0) k0)).length, bo false, vSc, vLe, upd fNu ((6 * r0) + q0) (nI k0), co1, ix1, ne1, di1, be1, cr1, fCw, fDo, fCh, fNx) dX0_place_76 (by rw [e1, e2]; exact ⟨⟨nu_set hnu hk8, h71, congrArg nI erk.symm, rfl, rfl, hLG1, false, rfl, fun h => by cases h⟩, congrArg nI erk.symm⟩) hP hD hS
          · refine lv_iconst (v := (-1)) hx hb dX0_place_48 (by decide) ?_
            exact hret _ _ 49 _ _ (nI (rk num 36), nI (rk num 36), nI (gL num).length, bo so, vSc, vLe, fNu, fCo, fIx, fNe, fDi, fBe, fCr, fCw, fDo, fCh, fNx) dX0_place_49 (by rw [(rsP_f (by rw [okP_v hr0 hq0 hk1 hk8]; simp [c4]; omega)).1, (rsP_f (by rw [okP_v hr0 hq0 hk1 hk8]; simp [c4]; omega)).2]; exact ⟨⟨hnu, h7, rfl, rfl, rfl, hLG, so, rfl, hRt⟩, rfl⟩) hP hD hS
      · refine lv_iconst (v := (-1)) hx hb dX0_place_19 (by decide) ?_
        exact hret _ _ 20 _ _ (nI (rk num 36), nI (rk num 36), nI (gL num).length, bo so, vSc, vLe, fNu, fCo, fIx, fNe, fDi, fBe, fCr, fCw, fDo, fCh, fNx) dX0_place_20 (by rw [(rsP_f (okP_f3 c3)).1, (rsP_f (okP_f3 c3)).2]; exact ⟨⟨hnu, h7, rfl, rfl, rfl, hLG, so, rfl, hRt⟩, rfl⟩) hP hD hS
abbrev rm_b_remove : Room := { frames := 2, cells := 0, slots := 0, locals := 50 }
set_option maxHeartbeats 4000000 in
set_option maxRecDepth 100000 in
/-- remove -/
theorem t_b_remove (l : Launch) (D : va_G) (h : Nat) (a : Nat → Nat) (dI dJ : ClassId) (vIs : Int32) (vLi : Int32) (vGc : Int32) (vSo : Int32) (vSc : Int32) (vLe : Int32) (fNu : Nat → Int32) (fCo : Nat → Int32) (fIx : Nat → Int32) (fNe : Nat → Int32) (fDi : Nat → Int32) (fBe : Nat → Int64) (fCr : Nat → Int32) (fCw : Nat → Int32) (fDo : Nat → Int32) (fCh : Nat → Int32) (fNx : Nat → Int32) (num : Nat → Nat) (x y : Int32) (hB : BBok num vIs vLi vGc vSo vSc vLe fNu fCo fIx fNe fDi fBe fCr fCw) (sz : Nat) : Met l yX0_remove (ws_ yX0_remove cX0_remove 3 (some .int)) rm_b_remove (cP D (kB dI dJ) (bbW h a dI dJ vIs vLi vGc vSo vSc vLe fNu fCo fIx fNe fDi fBe fCr fCw fDo fCh fNx) sz [.ref h, .int x, .int y]) (cQi D (kB dI dJ) (bbW h a dI dJ vIs vLi vGc vSo vSc vLe fNu fCo fIx fNe fDi fBe fCr fCw fDo fCh fNx) sz (fun (r : Int32) (u : (Int32) × (Int32) × (Int32) × (Int32) × (Int32) × (Int32) × (Nat → Int32) × (Nat → Int32) × (Nat → Int32) × (Nat → Int32) × (Nat → Int32) × (Nat → Int64) × (Nat → Int32) × (Nat → Int32) × (Nat → Int32) × (Nat → Int32) × (Nat → Int32)) => BBok (nuR num x y) u.1 u.2.1 u.2.2.1 u.2.2.2.1 u.2.2.2.2.1 u.2.2.2.2.2.1 u.2.2.2.2.2.2.1 u.2.2.2.2.2.2.2.1 u.2.2.2.2.2.2.2.2.1 u.2.2.2.2.2.2.2.2.2.1 u.2.2.2.2.2.2.2.2.2.2.1 u.2.2.2.2.2.2.2.2.2.2.2.1 u.2.2.2.2.2.2.2.2.2.2.2.2.1 u.2.2.2.2.2.2.2.2.2.2.2.2.2.1 ∧ r = rsR num x y) (fun (u : (Int32) × (Int32) × (Int32) × (Int32) × (Int32) × (Int32) × (Nat → Int32) × (Nat → Int32) × (Nat → Int32) × (Nat → Int32) × (Nat → Int32) × (Nat → Int64) × (Nat → Int32) × (Nat → Int32) × (Nat → Int32) × (Nat → Int32) × (Nat → Int32)) => bbW h a dI dJ u.1 u.2.1 u.2.2.1 u.2.2.2.1 u.2.2.2.2.1 u.2.2.2.2.2.1 u.2.2.2.2.2.2.1 u.2.2.2.2.2.2.2.1 u.2.2.2.2.2.2.2.2.1 u.2.2.2.2.2.2.2.2.2.1 u.2.2.2.2.2.2.2.2.2.2.1 u.2.2.2.2.2.2.2.2.2.2.2.1 u.2.2.2.2.2.2.2.2.2.2.2.2.1 u.2.2.2.2.2.2.2.2.2.2.2.2.2.1 u.2.2.2.2.2.2.2.2.2.2.2.2.2.2.1 u.2.2.2.2.2.2.2.2.2.2.2.2.2.2.2.1 u.2.2.2.2.2.2.2.2.2.2.2.2.2.2.2.2)) 0 0 (va_A (bbW h a dI dJ vIs vLi vGc vSo vSc vLe fNu fCo fIx fNe fDi fBe fCr fCw fDo fCh fNx) sz) := by
  refine en_i (by decide) (Nat.le_of_ble_eq_true rfl) ?_
  intro p e s m below meth c ls Q A hC hP hK hD hA hS hl hret
  have hC : CallFix p m c cX0_remove 3 s _ lw_all RX0 := hC
  have hx := hC.1
  have hb := hC.2.1
  have hl : lv_has ls 3 [(0, .ref h), (1, .int x), (2, .int y)] := hl
  obtain ⟨hnu, h7, rfl, rfl, rfl, hLG, so, rfl, hRt⟩ := hB
  have h14 := gL_len h7
  refine lv_iload_n hx hb dX0_remove_0 rfl (lv_at hl 1 rfl) ?_
  refine lv_iload_n hx hb dX0_remove_1 rfl (lv_at hl 2 rfl) ?_
  refine k_b_onBoard  hC hK (by decide) hl.1 (Nat.le_of_ble_eq_true rfl)  dX0_remove_2 ?_
  refine bz_eq (tgt := 22) hx hb dX0_remove_5 (by decide) (fun c1 => ?_) (fun c1 => ?_)
  · refine lv_iconst (v := (-1)) hx hb dX0_remove_22 (by decide) ?_
    exact hret _ _ 23 _ _ (nI (rk num 36), nI (rk num 36), nI (gL num).length, bo so, vSc, vLe, fNu, fCo, fIx, fNe, fDi, fBe, fCr, fCw, fDo, fCh, fNx) dX0_remove_23 (by rw [(rsR_f (by simp [okR, c1])).1, (rsR_f (by simp [okR, c1])).2]; exact ⟨⟨hnu, h7, rfl, rfl, rfl, hLG, so, rfl, hRt⟩, rfl⟩) hP hD hS
  · obtain ⟨r0, q0, hr0, hq0, rfl, rfl⟩ := onb_spec c1
    have hcc : 6 * r0 + q0 < 36 := by omega
    have hn8 := (hnu (6 * r0 + q0) hcc).2
    refine lv_aload_n hx hb dX0_remove_8 rfl (lv_at hl 0 rfl) ?_
    refine g0_number hC hK hP dX0_remove_9 ?_
    refine lv_bipush (v := nI 6) hx hb dX0_remove_12 (by decide) ?_
    refine lv_iload_n hx hb dX0_remove_14 rfl (lv_at hl 1 rfl) ?_
    refine nn_mul hx hb dX0_remove_15 ?_
    refine lv_iload_n hx hb dX0_remove_16 rfl (lv_at hl 2 rfl) ?_
    refine nn_add hx hb dX0_remove_17 ?_
    refine l0_number hC hK hP (by omega) dX0_remove_18 ?_
    refine ct_i (y := nI (num (6 * r0 + q0))) ((hnu (6 * r0 + q0) hcc).1) ?_
    refine nz_ne (tgt := 24) hx hb dX0_remove_19 (by decide) (by omega) (fun c2 => ?_) (fun c2 => ?_)
    · have hpos : 0 < num (6 * r0 + q0) := by omega
      have erk := rk_prem hcc hpos
      have h71 : rk (setN num (6 * r0 + q0) 0) 36 ≤ 7 := by omega
      refine lv_aload_n hx hb dX0_remove_24 rfl (lv_at hl 0 rfl) ?_
      refine g0_number hC hK hP dX0_remove_25 ?_
      refine lv_bipush (v := nI 6) hx hb dX0_remove_28 (by decide) ?_
      refine lv_iload_n hx hb dX0_remove_30 rfl (lv_at hl 1 rfl) ?_
      refine nn_mul hx hb dX0_remove_31 ?_
      refine lv_iload_n hx hb dX0_remove_32 rfl (lv_at hl 2 rfl) ?_
      refine nn_add hx hb dX0_remove_33 ?_
      refine lv_iconst (v := nI 0) hx hb dX0_remove_34 (by decide) ?_
      refine s0_number hC hK hP hD hS (by omega) dX0_remove_35 (fun H locs hP hD hS => ?_)
      refine lv_aload_n hx hb dX0_remove_36 rfl (lv_at hl 0 rfl) ?_
      refine lv_dup hx hb dX0_remove_37 rfl ?_
      refine g0_islands hC hK hP dX0_remove_38 ?_
      refine lv_iconst (v := nI 1) hx hb dX0_remove_41 (by decide) ?_
      refine nn_sub hx hb (by omega) dX0_remove_42 ?_
      refine ct_i (y := nI (rk (setN num (6 * r0 + q0) 0) 36)) (congrArg nI (by omega)) ?_
      refine p0_islands hC hK hP hD hS dX0_remove_43 (fun H locs hP hD hS => ?_)
      refine lv_aload_n hx hb dX0_remove_46 rfl (lv_at hl 0 rfl) ?_
      refine k_b_listGaps (num := (setN num (6 * r0 + q0) 0)) hC hK hP hD hS hA (by decide) hl.1 (Nat.le_of_ble_eq_true rfl) (nu_set hnu (by omega)) h71 dX0_remove_47 (fun co1 ix1 ne1 di1 be1 cr1 H locs hLG1 hP hD hS => ?_)
      refine lv_aload_n hx hb dX0_remove_50 rfl (lv_at hl 0 rfl) ?_
      refine g0_islands hC hK hP dX0_remove_51 ?_
      obtain ⟨e1, e2⟩ := rsR_t (num := num) hr0 hq0 hpos
      exact hret _ _ 54 _ _ (nI (rk (setN num (6 * r0 + q0) 0) 36), nI (rk (setN num (6 * r0 + q0) 0) 36), nI (gL (setN num (6 * r0 + q0) 0)).length, bo false, vSc, vLe, upd fNu ((6 * r0) + q0) (nI 0), co1, ix1, ne1, di1, be1, cr1, fCw, fDo, fCh, fNx) dX0_remove_54 (by rw [e1, e2]; exact ⟨⟨nu_set hnu (by omega), h71, rfl, rfl, rfl, hLG1, false, rfl, fun h => by cases h⟩, rfl⟩) hP hD hS
    · refine lv_iconst (v := (-1)) hx hb dX0_remove_22 (by decide) ?_
      exact hret _ _ 23 _ _ (nI (rk num 36), nI (rk num 36), nI (gL num).length, bo so, vSc, vLe, fNu, fCo, fIx, fNe, fDi, fBe, fCr, fCw, fDo, fCh, fNx) dX0_remove_23 (by rw [(rsR_f (by rw [okR_v hr0 hq0]; simp [c2])).1, (rsR_f (by rw [okR_v hr0 hq0]; simp [c2])).2]; exact ⟨⟨hnu, h7, rfl, rfl, rfl, hLG, so, rfl, hRt⟩, rfl⟩) hP hD hS
abbrev rm_b_island : Room := { frames := 1, cells := 0, slots := 0, locals := 21 }
set_option maxHeartbeats 4000000 in
set_option maxRecDepth 100000 in
/-- island -/
theorem t_b_island (l : Launch) (D : va_G) (h : Nat) (a : Nat → Nat) (dI dJ : ClassId) (vIs : Int32) (vLi : Int32) (vGc : Int32) (vSo : Int32) (vSc : Int32) (vLe : Int32) (fNu : Nat → Int32) (fCo : Nat → Int32) (fIx : Nat → Int32) (fNe : Nat → Int32) (fDi : Nat → Int32) (fBe : Nat → Int64) (fCr : Nat → Int32) (fCw : Nat → Int32) (fDo : Nat → Int32) (fCh : Nat → Int32) (fNx : Nat → Int32) (num : Nat → Nat) (x y : Int32) (hB : BBok num vIs vLi vGc vSo vSc vLe fNu fCo fIx fNe fDi fBe fCr fCw) : Met l yX0_island (ws_ yX0_island cX0_island 3 (some .int)) rm_b_island (rP D (kB dI dJ) (bbW h a dI dJ vIs vLi vGc vSo vSc vLe fNu fCo fIx fNe fDi fBe fCr fCw fDo fCh fNx) [.ref h, .int x, .int y]) (QcRead (rsI num x y)) 0 0 (fun _ => False) := by
  refine en_ri (by decide) (Nat.le_of_ble_eq_true rfl) ?_
  intro p e s m below meth c ls Q hC hP hK hl hret
  have hC : CallFix p m c cX0_island 3 s _ lw_all RX0 := hC
  have hx := hC.1
  have hb := hC.2.1
  have hl : lv_has ls 3 [(0, .ref h), (1, .int x), (2, .int y)] := hl
  obtain ⟨hnu, h7, rfl, rfl, rfl, hLG, so, rfl, hRt⟩ := hB
  have h14 := gL_len h7
  refine lv_iload_n hx hb dX0_island_0 rfl (lv_at hl 1 rfl) ?_
  refine lv_iload_n hx hb dX0_island_1 rfl (lv_at hl 2 rfl) ?_
  refine k_b_onBoard  hC hK (by decide) hl.1 (Nat.le_of_ble_eq_true rfl)  dX0_island_2 ?_
  refine bz_eq (tgt := 22) hx hb dX0_island_5 (by decide) (fun c1 => ?_) (fun c1 => ?_)
  · refine lv_iconst (v := (-1)) hx hb dX0_island_22 (by decide) ?_
    exact hret 23 _ _ dX0_island_23 (by rw [rsI, c1]; rfl)
  · obtain ⟨r0, q0, hr0, hq0, rfl, rfl⟩ := onb_spec c1
    have hcc : 6 * r0 + q0 < 36 := by omega
    refine lv_aload_n hx hb dX0_island_8 rfl (lv_at hl 0 rfl) ?_
    refine g0_number hC hK hP dX0_island_9 ?_
    refine lv_bipush (v := nI 6) hx hb dX0_island_12 (by decide) ?_
    refine lv_iload_n hx hb dX0_island_14 rfl (lv_at hl 1 rfl) ?_
    refine nn_mul hx hb dX0_island_15 ?_
    refine lv_iload_n hx hb dX0_island_16 rfl (lv_at hl 2 rfl) ?_
    refine nn_add hx hb dX0_island_17 ?_
    refine l0_number hC hK hP (by omega) dX0_island_18 ?_
    refine ct_i (y := nI (num (6 * r0 + q0))) ((hnu (6 * r0 + q0) hcc).1) ?_
    refine lv_goto (tgt := 23) hx hb dX0_island_19 (by decide) ?_
    exact hret 23 _ _ dX0_island_23 (by rw [rsI, c1, if_pos rfl, cel_nI hr0 hq0])
abbrev rm_b_gaps : Room := { frames := 0, cells := 0, slots := 0, locals := 0 }
set_option maxHeartbeats 4000000 in
set_option maxRecDepth 100000 in
/-- gaps -/
theorem t_b_gaps (l : Launch) (D : va_G) (h : Nat) (a : Nat → Nat) (dI dJ : ClassId) (vIs : Int32) (vLi : Int32) (vGc : Int32) (vSo : Int32) (vSc : Int32) (vLe : Int32) (fNu : Nat → Int32) (fCo : Nat → Int32) (fIx : Nat → Int32) (fNe : Nat → Int32) (fDi : Nat → Int32) (fBe : Nat → Int64) (fCr : Nat → Int32) (fCw : Nat → Int32) (fDo : Nat → Int32) (fCh : Nat → Int32) (fNx : Nat → Int32) (num : Nat → Nat) (hB : BBok num vIs vLi vGc vSo vSc vLe fNu fCo fIx fNe fDi fBe fCr fCw) : Met l yX0_gaps (ws_ yX0_gaps cX0_gaps 1 (some .int)) rm_b_gaps (rP D (kB dI dJ) (bbW h a dI dJ vIs vLi vGc vSo vSc vLe fNu fCo fIx fNe fDi fBe fCr fCw fDo fCh fNx) [.ref h]) (QcRead (nI (gL num).length)) 0 0 (fun _ => False) := by
  refine en_ri (by decide) (Nat.le_of_ble_eq_true rfl) ?_
  intro p e s m below meth c ls Q hC hP hK hl hret
  have hC : CallFix p m c cX0_gaps 1 s _ lw_all RX0 := hC
  have hx := hC.1
  have hb := hC.2.1
  have hl : lv_has ls 1 [(0, .ref h)] := hl
  obtain ⟨hnu, h7, rfl, rfl, rfl, hLG, so, rfl, hRt⟩ := hB
  have h14 := gL_len h7
  refine lv_aload_n hx hb dX0_gaps_0 rfl (lv_at hl 0 rfl) ?_
  refine g0_gapCount hC hK hP dX0_gaps_1 ?_
  exact hret 4 _ _ dX0_gaps_4 (rfl)
abbrev rm_b_end : Room := { frames := 0, cells := 0, slots := 0, locals := 0 }
set_option maxHeartbeats 4000000 in
set_option maxRecDepth 100000 in
/-- end -/
theorem t_b_end (l : Launch) (D : va_G) (h : Nat) (a : Nat → Nat) (dI dJ : ClassId) (vIs : Int32) (vLi : Int32) (vGc : Int32) (vSo : Int32) (vSc : Int32) (vLe : Int32) (fNu : Nat → Int32) (fCo : Nat → Int32) (fIx : Nat → Int32) (fNe : Nat → Int32) (fDi : Nat → Int32) (fBe : Nat → Int64) (fCr : Nat → Int32) (fCw : Nat → Int32) (fDo : Nat → Int32) (fCh : Nat → Int32) (fNx : Nat → Int32) (num : Nat → Nat) (x : Int32) (fb : Bool) (hB : BBok num vIs vLi vGc vSo vSc vLe fNu fCo fIx fNe fDi fBe fCr fCw) : Met l yX0_end (ws_ yX0_end cX0_end 3 (some .int)) rm_b_end (rP D (kB dI dJ) (bbW h a dI dJ vIs vLi vGc vSo vSc vLe fNu fCo fIx fNe fDi fBe fCr fCw fDo fCh fNx) [.ref h, .int x, .int (bo fb)]) (QcRead (rsE num x fb)) 0 0 (fun _ => False) := by
  refine en_ri (by decide) (Nat.le_of_ble_eq_true rfl) ?_
  intro p e s m below meth c ls Q hC hP hK hl hret
  have hC : CallFix p m c cX0_end 3 s _ lw_all RX0 := hC
  have hx := hC.1
  have hb := hC.2.1
  have hl : lv_has ls 3 [(0, .ref h), (1, .int x), (2, .int (bo fb))] := hl
  obtain ⟨hnu, h7, rfl, rfl, rfl, hLG, so, rfl, hRt⟩ := hB
  have h14 := gL_len h7
  refine lv_iload_n hx hb dX0_end_0 rfl (lv_at hl 1 rfl) ?_
  refine lv_if_lt (tgt := 12) hx hb dX0_end_1 (by decide) (fun c1 => ?_) (fun c1 => ?_)
  · refine lv_iconst (v := (-1)) hx hb dX0_end_12 (by decide) ?_
    exact hret 13 _ _ dX0_end_13 (by rw [rsE, if_pos c1])
  · obtain ⟨j0, hj0, rfl⟩ := nI_of c1
    refine lv_iload_n hx hb dX0_end_4 rfl (lv_at hl 1 rfl) ?_
    refine lv_aload_n hx hb dX0_end_5 rfl (lv_at hl 0 rfl) ?_
    refine g0_gapCount hC hK hP dX0_end_6 ?_
    refine nb_lt (tgt := 14) hx hb dX0_end_9 (by decide) (by omega) (by omega) (fun c2 => ?_) (fun c2 => ?_)
    · obtain ⟨a1, a2, a3, a4, a5⟩ := gL_ok c2
      obtain ⟨b1, b2, b3⟩ := hLG.2.2.1 j0 _ (gL_at c2)
      have e0 : rsE num (nI j0) fb = nI (if fb then frC num j0 else nrC num j0) := by rw [rsE, if_neg c1, nI_clamp hj0, if_neg (by omega)]
      have hr1 := rk_lt num a2 a1
      have hr2 := rk_lt num a4 a3
      refine lv_aload_n hx hb dX0_end_14 rfl (lv_at hl 0 rfl) ?_
      refine g0_cellOf hC hK hP dX0_end_15 ?_
      refine lv_iload_n hx hb dX0_end_18 rfl (lv_at hl 2 rfl) ?_
      refine bz_eq (tgt := 31) hx hb dX0_end_19 (by decide) (fun c3 => ?_) (fun c3 => ?_)
      · refine lv_aload_n hx hb dX0_end_31 rfl (lv_at hl 0 rfl) ?_
        refine g0_near hC hK hP dX0_end_32 ?_
        refine lv_iload_n hx hb dX0_end_35 rfl (lv_at hl 1 rfl) ?_
        refine l0_near hC hK hP (by omega) dX0_end_36 ?_
        refine ct_i (y := nI (rk num (nrC num j0))) (b1) ?_
        refine l0_cellOf hC hK hP (by omega) dX0_end_37 ?_
        refine ct_i (y := nI (nrC num j0)) (hLG.1 _ a1 a2) ?_
        exact hret 38 _ _ dX0_end_38 (by rw [e0, c3]; rfl)
      · refine lv_aload_n hx hb dX0_end_22 rfl (lv_at hl 0 rfl) ?_
        refine g0_distant hC hK hP dX0_end_23 ?_
        refine lv_iload_n hx hb dX0_end_26 rfl (lv_at hl 1 rfl) ?_
        refine l0_distant hC hK hP (by omega) dX0_end_27 ?_
        refine ct_i (y := nI (rk num (frC num j0))) (b2) ?_
        refine lv_goto (tgt := 37) hx hb dX0_end_28 (by decide) ?_
        refine l0_cellOf hC hK hP (by omega) dX0_end_37 ?_
        refine ct_i (y := nI (frC num j0)) (hLG.1 _ a3 a4) ?_
        exact hret 38 _ _ dX0_end_38 (by rw [e0, c3]; rfl)
    · refine lv_iconst (v := (-1)) hx hb dX0_end_12 (by decide) ?_
      exact hret 13 _ _ dX0_end_13 (by rw [rsE, if_neg c1, nI_clamp hj0, if_pos c2])
abbrev rm_b_solutions : Room := { frames := 6, cells := 0, slots := 0, locals := 151 }
set_option maxHeartbeats 4000000 in
set_option maxRecDepth 100000 in
/-- solutions -/
theorem t_b_solutions (l : Launch) (D : va_G) (h : Nat) (a : Nat → Nat) (dI dJ : ClassId) (vIs : Int32) (vLi : Int32) (vGc : Int32) (vSo : Int32) (vSc : Int32) (vLe : Int32) (fNu : Nat → Int32) (fCo : Nat → Int32) (fIx : Nat → Int32) (fNe : Nat → Int32) (fDi : Nat → Int32) (fBe : Nat → Int64) (fCr : Nat → Int32) (fCw : Nat → Int32) (fDo : Nat → Int32) (fCh : Nat → Int32) (fNx : Nat → Int32) (num : Nat → Nat) (hB : BBok num vIs vLi vGc vSo vSc vLe fNu fCo fIx fNe fDi fBe fCr fCw) (hSr : (gL num).length ≤ 8 → SrOK num) (sz : Nat) : Met l yX0_solutions (ws_ yX0_solutions cX0_solutions 1 (some .int)) rm_b_solutions (cP D (kB dI dJ) (bbW h a dI dJ vIs vLi vGc vSo vSc vLe fNu fCo fIx fNe fDi fBe fCr fCw fDo fCh fNx) sz [.ref h]) (cQi D (kB dI dJ) (bbW h a dI dJ vIs vLi vGc vSo vSc vLe fNu fCo fIx fNe fDi fBe fCr fCw fDo fCh fNx) sz (fun (r : Int32) (u : (Int32) × (Int32) × (Int32) × (Int32) × (Int32) × (Int32) × (Nat → Int32) × (Nat → Int32) × (Nat → Int32) × (Nat → Int32) × (Nat → Int32) × (Nat → Int64) × (Nat → Int32) × (Nat → Int32) × (Nat → Int32) × (Nat → Int32) × (Nat → Int32)) => BBok (num) u.1 u.2.1 u.2.2.1 u.2.2.2.1 u.2.2.2.2.1 u.2.2.2.2.2.1 u.2.2.2.2.2.2.1 u.2.2.2.2.2.2.2.1 u.2.2.2.2.2.2.2.2.1 u.2.2.2.2.2.2.2.2.2.1 u.2.2.2.2.2.2.2.2.2.2.1 u.2.2.2.2.2.2.2.2.2.2.2.1 u.2.2.2.2.2.2.2.2.2.2.2.2.1 u.2.2.2.2.2.2.2.2.2.2.2.2.2.1 ∧ r = rsS num) (fun (u : (Int32) × (Int32) × (Int32) × (Int32) × (Int32) × (Int32) × (Nat → Int32) × (Nat → Int32) × (Nat → Int32) × (Nat → Int32) × (Nat → Int32) × (Nat → Int64) × (Nat → Int32) × (Nat → Int32) × (Nat → Int32) × (Nat → Int32) × (Nat → Int32)) => bbW h a dI dJ u.1 u.2.1 u.2.2.1 u.2.2.2.1 u.2.2.2.2.1 u.2.2.2.2.2.1 u.2.2.2.2.2.2.1 u.2.2.2.2.2.2.2.1 u.2.2.2.2.2.2.2.2.1 u.2.2.2.2.2.2.2.2.2.1 u.2.2.2.2.2.2.2.2.2.2.1 u.2.2.2.2.2.2.2.2.2.2.2.1 u.2.2.2.2.2.2.2.2.2.2.2.2.1 u.2.2.2.2.2.2.2.2.2.2.2.2.2.1 u.2.2.2.2.2.2.2.2.2.2.2.2.2.2.1 u.2.2.2.2.2.2.2.2.2.2.2.2.2.2.2.1 u.2.2.2.2.2.2.2.2.2.2.2.2.2.2.2.2)) 0 0 (va_A (bbW h a dI dJ vIs vLi vGc vSo vSc vLe fNu fCo fIx fNe fDi fBe fCr fCw fDo fCh fNx) sz) := by
  refine en_i (by decide) (Nat.le_of_ble_eq_true rfl) ?_
  intro p e s m below meth c ls Q A hC hP hK hD hA hS hl hret
  have hC : CallFix p m c cX0_solutions 1 s _ lw_all RX0 := hC
  have hx := hC.1
  have hb := hC.2.1
  have hl : lv_has ls 1 [(0, .ref h)] := hl
  obtain ⟨hnu, h7, rfl, rfl, rfl, hLG, so, rfl, hRt⟩ := hB
  have h14 := gL_len h7
  refine lv_aload_n hx hb dX0_solutions_0 rfl (lv_at hl 0 rfl) ?_
  refine g0_gapCount hC hK hP dX0_solutions_1 ?_
  refine lv_bipush (v := nI 8) hx hb dX0_solutions_4 (by decide) ?_
  refine nb_le (tgt := 12) hx hb dX0_solutions_6 (by decide) (by omega) (by omega) (fun c1 => ?_) (fun c1 => ?_)
  · have hI := bbI_of hnu h7 c1 hLG
    obtain ⟨Inv, hok, hinit⟩ := hSr c1
    have hs6 := sols_le c1
    refine lv_aload_n hx hb dX0_solutions_12 rfl (lv_at hl 0 rfl) ?_
    refine k_b_solve (so := so) (Inv := Inv) (Rt := Rt num) hC hK hP hD hS hA (by decide) hl.1 (Nat.le_of_ble_eq_true rfl) hI hok (hinit fDo fCh fNx fCw).1 (fun q => hRt q (by omega)) (fun _ => (hinit fDo fCh fNx fCw).2) dX0_solutions_13 (fun sc1 le1 cw1 dom1 ch1 nx1 H locs hR1 hP hD hS => ?_)
    obtain ⟨esc, hcw, hle⟩ := id hR1
    subst esc
    refine lv_aload_n hx hb dX0_solutions_16 rfl (lv_at hl 0 rfl) ?_
    refine g0_solutionCount hC hK hP dX0_solutions_17 ?_
    exact hret _ _ 20 _ _ (nI (rk num 36), nI (rk num 36), nI (gL num).length, bo true, nI (sols num).length, le1, fNu, fCo, fIx, fNe, fDi, fBe, fCr, cw1, dom1, ch1, nx1) dX0_solutions_20 (⟨⟨hnu, h7, rfl, rfl, rfl, hLG, true, rfl, fun _ _ => hR1⟩, (if_neg (by omega)).symm⟩) hP hD hS
  · refine lv_bipush (v := (-2)) hx hb dX0_solutions_9 (by decide) ?_
    exact hret _ _ 11 _ _ (nI (rk num 36), nI (rk num 36), nI (gL num).length, bo so, vSc, vLe, fNu, fCo, fIx, fNe, fDi, fBe, fCr, fCw, fDo, fCh, fNx) dX0_solutions_11 (⟨⟨hnu, h7, rfl, rfl, rfl, hLG, so, rfl, hRt⟩, (if_pos c1).symm⟩) hP hD hS
abbrev rm_b_least : Room := { frames := 6, cells := 0, slots := 0, locals := 151 }
set_option maxHeartbeats 4000000 in
set_option maxRecDepth 100000 in
/-- least -/
theorem t_b_least (l : Launch) (D : va_G) (h : Nat) (a : Nat → Nat) (dI dJ : ClassId) (vIs : Int32) (vLi : Int32) (vGc : Int32) (vSo : Int32) (vSc : Int32) (vLe : Int32) (fNu : Nat → Int32) (fCo : Nat → Int32) (fIx : Nat → Int32) (fNe : Nat → Int32) (fDi : Nat → Int32) (fBe : Nat → Int64) (fCr : Nat → Int32) (fCw : Nat → Int32) (fDo : Nat → Int32) (fCh : Nat → Int32) (fNx : Nat → Int32) (num : Nat → Nat) (x : Int32) (hB : BBok num vIs vLi vGc vSo vSc vLe fNu fCo fIx fNe fDi fBe fCr fCw) (hSr : (gL num).length ≤ 8 → SrOK num) (sz : Nat) : Met l yX0_least (ws_ yX0_least cX0_least 3 (some .int)) rm_b_least (cP D (kB dI dJ) (bbW h a dI dJ vIs vLi vGc vSo vSc vLe fNu fCo fIx fNe fDi fBe fCr fCw fDo fCh fNx) sz [.ref h, .int x]) (cQi D (kB dI dJ) (bbW h a dI dJ vIs vLi vGc vSo vSc vLe fNu fCo fIx fNe fDi fBe fCr fCw fDo fCh fNx) sz (fun (r : Int32) (u : (Int32) × (Int32) × (Int32) × (Int32) × (Int32) × (Int32) × (Nat → Int32) × (Nat → Int32) × (Nat → Int32) × (Nat → Int32) × (Nat → Int32) × (Nat → Int64) × (Nat → Int32) × (Nat → Int32) × (Nat → Int32) × (Nat → Int32) × (Nat → Int32)) => BBok (num) u.1 u.2.1 u.2.2.1 u.2.2.2.1 u.2.2.2.2.1 u.2.2.2.2.2.1 u.2.2.2.2.2.2.1 u.2.2.2.2.2.2.2.1 u.2.2.2.2.2.2.2.2.1 u.2.2.2.2.2.2.2.2.2.1 u.2.2.2.2.2.2.2.2.2.2.1 u.2.2.2.2.2.2.2.2.2.2.2.1 u.2.2.2.2.2.2.2.2.2.2.2.2.1 u.2.2.2.2.2.2.2.2.2.2.2.2.2.1 ∧ r = rsL num x) (fun (u : (Int32) × (Int32) × (Int32) × (Int32) × (Int32) × (Int32) × (Nat → Int32) × (Nat → Int32) × (Nat → Int32) × (Nat → Int32) × (Nat → Int32) × (Nat → Int64) × (Nat → Int32) × (Nat → Int32) × (Nat → Int32) × (Nat → Int32) × (Nat → Int32)) => bbW h a dI dJ u.1 u.2.1 u.2.2.1 u.2.2.2.1 u.2.2.2.2.1 u.2.2.2.2.2.1 u.2.2.2.2.2.2.1 u.2.2.2.2.2.2.2.1 u.2.2.2.2.2.2.2.2.1 u.2.2.2.2.2.2.2.2.2.1 u.2.2.2.2.2.2.2.2.2.2.1 u.2.2.2.2.2.2.2.2.2.2.2.1 u.2.2.2.2.2.2.2.2.2.2.2.2.1 u.2.2.2.2.2.2.2.2.2.2.2.2.2.1 u.2.2.2.2.2.2.2.2.2.2.2.2.2.2.1 u.2.2.2.2.2.2.2.2.2.2.2.2.2.2.2.1 u.2.2.2.2.2.2.2.2.2.2.2.2.2.2.2.2)) 0 0 (va_A (bbW h a dI dJ vIs vLi vGc vSo vSc vLe fNu fCo fIx fNe fDi fBe fCr fCw fDo fCh fNx) sz) := by
  refine en_i (by decide) (Nat.le_of_ble_eq_true rfl) ?_
  intro p e s m below meth c ls Q A hC hP hK hD hA hS hl hret
  have hC : CallFix p m c cX0_least 3 s _ lw_all RX0 := hC
  have hx := hC.1
  have hb := hC.2.1
  have hl : lv_has ls 3 [(0, .ref h), (1, .int x)] := hl
  obtain ⟨hnu, h7, rfl, rfl, rfl, hLG, so, rfl, hRt⟩ := hB
  have h14 := gL_len h7
  refine lv_aload_n hx hb dX0_least_0 rfl (lv_at hl 0 rfl) ?_
  refine g0_gapCount hC hK hP dX0_least_1 ?_
  refine lv_bipush (v := nI 8) hx hb dX0_least_4 (by decide) ?_
  refine nb_le (tgt := 12) hx hb dX0_least_6 (by decide) (by omega) (by omega) (fun c1 => ?_) (fun c1 => ?_)
  · refine lv_iload_n hx hb dX0_least_12 rfl (lv_at hl 1 rfl) ?_
    refine lv_if_lt (tgt := 24) hx hb dX0_least_13 (by decide) (fun c2 => ?_) (fun c2 => ?_)
    · refine lv_iconst (v := (-1)) hx hb dX0_least_24 (by decide) ?_
      exact hret _ _ 25 _ _ (nI (rk num 36), nI (rk num 36), nI (gL num).length, bo so, vSc, vLe, fNu, fCo, fIx, fNe, fDi, fBe, fCr, fCw, fDo, fCh, fNx) dX0_least_25 (⟨⟨hnu, h7, rfl, rfl, rfl, hLG, so, rfl, hRt⟩, by rw [rsL, if_neg (by omega), if_pos c2]⟩) hP hD hS
    · obtain ⟨j0, hj0, rfl⟩ := nI_of c2
      refine lv_iload_n hx hb dX0_least_16 rfl (lv_at hl 1 rfl) ?_
      refine lv_aload_n hx hb dX0_least_17 rfl (lv_at hl 0 rfl) ?_
      refine g0_gapCount hC hK hP dX0_least_18 ?_
      refine nb_lt (tgt := 26) hx hb dX0_least_21 (by decide) (by omega) (by omega) (fun c3 => ?_) (fun c3 => ?_)
      · have e0 : rsL num (nI j0) = lst num j0 := by rw [rsL, if_neg (by omega), if_neg c2, nI_clamp hj0, if_neg (by omega)]
        have hI := bbI_of hnu h7 c1 hLG
        obtain ⟨Inv, hok, hinit⟩ := hSr c1
        have hs6 := sols_le c1
        refine lv_aload_n hx hb dX0_least_26 rfl (lv_at hl 0 rfl) ?_
        refine k_b_solve (so := so) (Inv := Inv) (Rt := Rt num) hC hK hP hD hS hA (by decide) hl.1 (Nat.le_of_ble_eq_true rfl) hI hok (hinit fDo fCh fNx fCw).1 (fun q => hRt q (by omega)) (fun _ => (hinit fDo fCh fNx fCw).2) dX0_least_27 (fun sc1 le1 cw1 dom1 ch1 nx1 H locs hR1 hP hD hS => ?_)
        obtain ⟨esc, hcw, hle⟩ := id hR1
        subst esc
        refine lv_aload_n hx hb dX0_least_30 rfl (lv_at hl 0 rfl) ?_
        refine g0_solutionCount hC hK hP dX0_least_31 ?_
        refine nz_ne (tgt := 39) hx hb dX0_least_34 (by decide) (by omega) (fun c4 => ?_) (fun c4 => ?_)
        · obtain ⟨a0, ha0⟩ : ∃ a0, (sols num).head? = some a0 := by cases hq : sols num with | nil => rw [hq] at c4; exact absurd rfl c4 | cons a0 t => exact ⟨a0, rfl⟩
          have e1 : lw le1 j0 = fnL a0 j0 := hle a0 ha0 j0 c3
          refine lv_aload_n hx hb dX0_least_39 rfl (lv_at hl 0 rfl) ?_
          refine g0_leastSolution hC hK hP dX0_least_40 ?_
          refine lv_iload_n hx hb dX0_least_43 rfl (lv_at hl 1 rfl) ?_
          refine k_b_domainOf  hC hK (by decide) hl.1 (Nat.le_of_ble_eq_true rfl) (by omega) dX0_least_44 ?_
          refine lv_istore_n (lv' := [(2, .int (dm le1 j0)), (0, .ref h), (1, .int (nI j0))]) hx hb dX0_least_47 rfl hl (by decide) rfl (fun ls hl => ?_)
          refine lv_iload_n hx hb dX0_least_48 rfl (lv_at hl 0 rfl) ?_
          refine k_b_lowest (a1 := pb le1 j0 0) (a2 := pb le1 j0 1) (a3 := pb le1 j0 2) hC hK (by decide) hl.1 (Nat.le_of_ble_eq_true rfl) dX0_least_49 ?_
          refine ct_i (y := nI (lw le1 j0)) (rfl) ?_
          exact hret _ _ 52 _ _ (nI (rk num 36), nI (rk num 36), nI (gL num).length, bo true, nI (sols num).length, le1, fNu, fCo, fIx, fNe, fDi, fBe, fCr, cw1, dom1, ch1, nx1) dX0_least_52 (⟨⟨hnu, h7, rfl, rfl, rfl, hLG, true, rfl, fun _ _ => hR1⟩, by rw [e0, lst, ha0, e1]⟩) hP hD hS
        · have e1 : (sols num).head? = none := by rw [List.eq_nil_of_length_eq_zero c4]; rfl
          refine lv_iconst (v := (-1)) hx hb dX0_least_37 (by decide) ?_
          exact hret _ _ 38 _ _ (nI (rk num 36), nI (rk num 36), nI (gL num).length, bo true, nI (sols num).length, le1, fNu, fCo, fIx, fNe, fDi, fBe, fCr, cw1, dom1, ch1, nx1) dX0_least_38 (⟨⟨hnu, h7, rfl, rfl, rfl, hLG, true, rfl, fun _ _ => hR1⟩, by rw [e0, lst, e1]⟩) hP hD hS
      · refine lv_iconst (v := (-1)) hx hb dX0_least_24 (by decide) ?_
        exact hret _ _ 25 _ _ (nI (rk num 36), nI (rk num 36), nI (gL num).length, bo so, vSc, vLe, fNu, fCo, fIx, fNe, fDi, fBe, fCr, fCw, fDo, fCh, fNx) dX0_least_25 (⟨⟨hnu, h7, rfl, rfl, rfl, hLG, so, rfl, hRt⟩, by rw [rsL, if_neg (by omega), if_neg c2, nI_clamp hj0, if_pos c3]⟩) hP hD hS
  · refine lv_bipush (v := (-2)) hx hb dX0_least_9 (by decide) ?_
    exact hret _ _ 11 _ _ (nI (rk num 36), nI (rk num 36), nI (gL num).length, bo so, vSc, vLe, fNu, fCo, fIx, fNe, fDi, fBe, fCr, fCw, fDo, fCh, fNx) dX0_least_11 (⟨⟨hnu, h7, rfl, rfl, rfl, hLG, so, rfl, hRt⟩, (if_pos c1).symm⟩) hP hD hS
abbrev rm_b_always : Room := { frames := 6, cells := 0, slots := 0, locals := 151 }
set_option maxHeartbeats 4000000 in
set_option maxRecDepth 100000 in
/-- always -/
theorem t_b_always (l : Launch) (D : va_G) (h : Nat) (a : Nat → Nat) (dI dJ : ClassId) (vIs : Int32) (vLi : Int32) (vGc : Int32) (vSo : Int32) (vSc : Int32) (vLe : Int32) (fNu : Nat → Int32) (fCo : Nat → Int32) (fIx : Nat → Int32) (fNe : Nat → Int32) (fDi : Nat → Int32) (fBe : Nat → Int64) (fCr : Nat → Int32) (fCw : Nat → Int32) (fDo : Nat → Int32) (fCh : Nat → Int32) (fNx : Nat → Int32) (num : Nat → Nat) (x : Int32) (hB : BBok num vIs vLi vGc vSo vSc vLe fNu fCo fIx fNe fDi fBe fCr fCw) (hSr : (gL num).length ≤ 8 → SrOK num) (sz : Nat) : Met l yX0_always (ws_ yX0_always cX0_always 3 (some .int)) rm_b_always (cP D (kB dI dJ) (bbW h a dI dJ vIs vLi vGc vSo vSc vLe fNu fCo fIx fNe fDi fBe fCr fCw fDo fCh fNx) sz [.ref h, .int x]) (cQi D (kB dI dJ) (bbW h a dI dJ vIs vLi vGc vSo vSc vLe fNu fCo fIx fNe fDi fBe fCr fCw fDo fCh fNx) sz (fun (r : Int32) (u : (Int32) × (Int32) × (Int32) × (Int32) × (Int32) × (Int32) × (Nat → Int32) × (Nat → Int32) × (Nat → Int32) × (Nat → Int32) × (Nat → Int32) × (Nat → Int64) × (Nat → Int32) × (Nat → Int32) × (Nat → Int32) × (Nat → Int32) × (Nat → Int32)) => BBok (num) u.1 u.2.1 u.2.2.1 u.2.2.2.1 u.2.2.2.2.1 u.2.2.2.2.2.1 u.2.2.2.2.2.2.1 u.2.2.2.2.2.2.2.1 u.2.2.2.2.2.2.2.2.1 u.2.2.2.2.2.2.2.2.2.1 u.2.2.2.2.2.2.2.2.2.2.1 u.2.2.2.2.2.2.2.2.2.2.2.1 u.2.2.2.2.2.2.2.2.2.2.2.2.1 u.2.2.2.2.2.2.2.2.2.2.2.2.2.1 ∧ r = rsA num x) (fun (u : (Int32) × (Int32) × (Int32) × (Int32) × (Int32) × (Int32) × (Nat → Int32) × (Nat → Int32) × (Nat → Int32) × (Nat → Int32) × (Nat → Int32) × (Nat → Int64) × (Nat → Int32) × (Nat → Int32) × (Nat → Int32) × (Nat → Int32) × (Nat → Int32)) => bbW h a dI dJ u.1 u.2.1 u.2.2.1 u.2.2.2.1 u.2.2.2.2.1 u.2.2.2.2.2.1 u.2.2.2.2.2.2.1 u.2.2.2.2.2.2.2.1 u.2.2.2.2.2.2.2.2.1 u.2.2.2.2.2.2.2.2.2.1 u.2.2.2.2.2.2.2.2.2.2.1 u.2.2.2.2.2.2.2.2.2.2.2.1 u.2.2.2.2.2.2.2.2.2.2.2.2.1 u.2.2.2.2.2.2.2.2.2.2.2.2.2.1 u.2.2.2.2.2.2.2.2.2.2.2.2.2.2.1 u.2.2.2.2.2.2.2.2.2.2.2.2.2.2.2.1 u.2.2.2.2.2.2.2.2.2.2.2.2.2.2.2.2)) 0 0 (va_A (bbW h a dI dJ vIs vLi vGc vSo vSc vLe fNu fCo fIx fNe fDi fBe fCr fCw fDo fCh fNx) sz) := by
  refine en_i (by decide) (Nat.le_of_ble_eq_true rfl) ?_
  intro p e s m below meth c ls Q A hC hP hK hD hA hS hl hret
  have hC : CallFix p m c cX0_always 3 s _ lw_all RX0 := hC
  have hx := hC.1
  have hb := hC.2.1
  have hl : lv_has ls 3 [(0, .ref h), (1, .int x)] := hl
  obtain ⟨hnu, h7, rfl, rfl, rfl, hLG, so, rfl, hRt⟩ := hB
  have h14 := gL_len h7
  refine lv_aload_n hx hb dX0_always_0 rfl (lv_at hl 0 rfl) ?_
  refine g0_gapCount hC hK hP dX0_always_1 ?_
  refine lv_bipush (v := nI 8) hx hb dX0_always_4 (by decide) ?_
  refine nb_le (tgt := 12) hx hb dX0_always_6 (by decide) (by omega) (by omega) (fun c1 => ?_) (fun c1 => ?_)
  · refine lv_iload_n hx hb dX0_always_12 rfl (lv_at hl 1 rfl) ?_
    refine lv_if_lt (tgt := 24) hx hb dX0_always_13 (by decide) (fun c2 => ?_) (fun c2 => ?_)
    · refine lv_iconst (v := (-1)) hx hb dX0_always_24 (by decide) ?_
      exact hret _ _ 25 _ _ (nI (rk num 36), nI (rk num 36), nI (gL num).length, bo so, vSc, vLe, fNu, fCo, fIx, fNe, fDi, fBe, fCr, fCw, fDo, fCh, fNx) dX0_always_25 (⟨⟨hnu, h7, rfl, rfl, rfl, hLG, so, rfl, hRt⟩, by rw [rsA, if_neg (by omega), if_pos c2]⟩) hP hD hS
    · obtain ⟨j0, hj0, rfl⟩ := nI_of c2
      refine lv_iload_n hx hb dX0_always_16 rfl (lv_at hl 1 rfl) ?_
      refine lv_aload_n hx hb dX0_always_17 rfl (lv_at hl 0 rfl) ?_
      refine g0_gapCount hC hK hP dX0_always_18 ?_
      refine nb_lt (tgt := 26) hx hb dX0_always_21 (by decide) (by omega) (by omega) (fun c3 => ?_) (fun c3 => ?_)
      · have e0 : rsA num (nI j0) = alw num j0 := by rw [rsA, if_neg (by omega), if_neg c2, nI_clamp hj0, if_neg (by omega)]
        have hI := bbI_of hnu h7 c1 hLG
        obtain ⟨Inv, hok, hinit⟩ := hSr c1
        have hs6 := sols_le c1
        refine lv_aload_n hx hb dX0_always_26 rfl (lv_at hl 0 rfl) ?_
        refine k_b_solve (so := so) (Inv := Inv) (Rt := Rt num) hC hK hP hD hS hA (by decide) hl.1 (Nat.le_of_ble_eq_true rfl) hI hok (hinit fDo fCh fNx fCw).1 (fun q => hRt q (by omega)) (fun _ => (hinit fDo fCh fNx fCw).2) dX0_always_27 (fun sc1 le1 cw1 dom1 ch1 nx1 H locs hR1 hP hD hS => ?_)
        obtain ⟨esc, hcw, hle⟩ := id hR1
        subst esc
        refine lv_iconst (v := nI 0) hx hb dX0_always_30 (by decide) ?_
        refine lv_istore_n (lv' := [(2, .int (nI 0)), (0, .ref h), (1, .int (nI j0))]) hx hb dX0_always_31 rfl hl (by decide) rfl (fun ls hl => ?_)
        have lp : ∀ (n : Nat) (b0 : Nat) (ls : Array Slot), (b0 ≤ 3) → (∀ j, j < b0 → ¬ (0 < (sols num).length ∧ cnW num j0 j = (sols num).length)) → 3 < b0 + n → ∀ (H : Heap) (locs : List Loc), va_P D vwCl (bbW h a dI dJ (nI (rk num 36)) (nI (rk num 36)) (nI (gL num).length) (bo true) (nI (sols num).length) le1 fNu fCo fIx fNe fDi fBe fCr cw1 dom1 ch1 nx1) H → va_D A (bbW h a dI dJ (nI (rk num 36)) (nI (rk num 36)) (nI (gL num).length) (bo true) (nI (sols num).length) le1 fNu fCo fIx fNe fDi fBe fCr cw1 dom1 ch1 nx1) → va_S A s.heap H locs → lv_has ls 3 [(0, .ref h), (1, .int (nI j0)), (2, .int (nI b0))] → W p l e rm_b_always s m ([.ref h, .int (nI j0)] : List Value).toArray below meth c H locs 0 0 Q (F0 m 32 ls []) := by
          intro n
          induction n with
          | zero =>
            intro b0 ls hb0 hsk hfu
            exact absurd hfu (by omega)
          | succ n ih =>
            intro b0 ls hb0 hsk hfu H locs hP hD hS hl
            have hcl := cnW_le num j0 b0
            refine lv_iload_n hx hb dX0_always_32 rfl (lv_at hl 2 rfl) ?_
            refine lv_iconst (v := nI 3) hx hb dX0_always_33 (by decide) ?_
            refine nb_ge (tgt := 69) hx hb dX0_always_34 (by decide) (by omega) (by omega) (fun c4 => ?_) (fun c4 => ?_)
            · refine lv_iconst (v := (-1)) hx hb dX0_always_69 (by decide) ?_
              exact hret _ _ 70 _ _ (nI (rk num 36), nI (rk num 36), nI (gL num).length, bo true, nI (sols num).length, le1, fNu, fCo, fIx, fNe, fDi, fBe, fCr, cw1, dom1, ch1, nx1) dX0_always_70 (⟨⟨hnu, h7, rfl, rfl, rfl, hLG, true, rfl, fun _ _ => hR1⟩, by rw [e0, alw_no (fun j hj => hsk j (by omega))]⟩) hP hD hS
            · refine lv_aload_n hx hb dX0_always_37 rfl (lv_at hl 0 rfl) ?_
              refine g0_solutionCount hC hK hP dX0_always_38 ?_
              refine nz_le (tgt := 63) hx hb dX0_always_41 (by decide) (by omega) (fun c5 => ?_) (fun c5 => ?_)
              · refine lv_iinc (v := nI (b0 + 1)) (lv' := [(2, .int (nI (b0 + 1))), (0, .ref h), (1, .int (nI j0))]) hx hb dX0_always_63 hl (k := 2) rfl (nI_1 _) (by decide) rfl (fun ls hl => ?_)
                refine lv_goto (tgt := 32) hx hb dX0_always_66 (by decide) ?_
                exact ih (b0 + 1) _ (by omega) (fun j hj => by rcases Nat.lt_or_ge j b0 with q | q; exact hsk j q; rw [show j = b0 by omega]; exact fun q => absurd q.1 (by omega)) (by omega) _ _ hP hD hS (lv_sub hl [1, 2, 0] rfl)
              · refine lv_aload_n hx hb dX0_always_44 rfl (lv_at hl 0 rfl) ?_
                refine g0_countWith hC hK hP dX0_always_45 ?_
                refine lv_iconst (v := nI 3) hx hb dX0_always_48 (by decide) ?_
                refine lv_iload_n hx hb dX0_always_49 rfl (lv_at hl 1 rfl) ?_
                refine nn_mul hx hb dX0_always_50 ?_
                refine lv_iload_n hx hb dX0_always_51 rfl (lv_at hl 2 rfl) ?_
                refine nn_add hx hb dX0_always_52 ?_
                refine l0_countWith hC hK hP (by omega) dX0_always_53 ?_
                refine ct_i (y := nI (cnW num j0 b0)) (hcw j0 b0 c3 c4) ?_
                refine lv_aload_n hx hb dX0_always_54 rfl (lv_at hl 0 rfl) ?_
                refine g0_solutionCount hC hK hP dX0_always_55 ?_
                refine nb_ne (tgt := 63) hx hb dX0_always_58 (by decide) (by omega) (by omega) (fun c6 => ?_) (fun c6 => ?_)
                · refine lv_iinc (v := nI (b0 + 1)) (lv' := [(2, .int (nI (b0 + 1))), (0, .ref h), (1, .int (nI j0))]) hx hb dX0_always_63 hl (k := 2) rfl (nI_1 _) (by decide) rfl (fun ls hl => ?_)
                  refine lv_goto (tgt := 32) hx hb dX0_always_66 (by decide) ?_
                  exact ih (b0 + 1) _ (by omega) (fun j hj => by rcases Nat.lt_or_ge j b0 with q | q; exact hsk j q; rw [show j = b0 by omega]; exact fun q => c6 q.2) (by omega) _ _ hP hD hS (lv_sub hl [1, 2, 0] rfl)
                · refine lv_iload_n hx hb dX0_always_61 rfl (lv_at hl 2 rfl) ?_
                  exact hret _ _ 62 _ _ (nI (rk num 36), nI (rk num 36), nI (gL num).length, bo true, nI (sols num).length, le1, fNu, fCo, fIx, fNe, fDi, fBe, fCr, cw1, dom1, ch1, nx1) dX0_always_62 (⟨⟨hnu, h7, rfl, rfl, rfl, hLG, true, rfl, fun _ _ => hR1⟩, by rw [e0, alw_at c4 hsk ⟨c5, c6⟩]⟩) hP hD hS
        exact lp 4 0 _ (by omega) (fun j hj => by omega) (by omega) _ _ hP hD hS (lv_sub hl [1, 2, 0] rfl)
      · refine lv_iconst (v := (-1)) hx hb dX0_always_24 (by decide) ?_
        exact hret _ _ 25 _ _ (nI (rk num 36), nI (rk num 36), nI (gL num).length, bo so, vSc, vLe, fNu, fCo, fIx, fNe, fDi, fBe, fCr, fCw, fDo, fCh, fNx) dX0_always_25 (⟨⟨hnu, h7, rfl, rfl, rfl, hLG, so, rfl, hRt⟩, by rw [rsA, if_neg (by omega), if_neg c2, nI_clamp hj0, if_pos c3]⟩) hP hD hS
  · refine lv_bipush (v := (-2)) hx hb dX0_always_9 (by decide) ?_
    exact hret _ _ 11 _ _ (nI (rk num 36), nI (rk num 36), nI (gL num).length, bo so, vSc, vLe, fNu, fCo, fIx, fNe, fDi, fBe, fCr, fCw, fDo, fCh, fNx) dX0_always_11 (⟨⟨hnu, h7, rfl, rfl, rfl, hLG, so, rfl, hRt⟩, (if_pos c1).symm⟩) hP hD hS
abbrev rm_b_with : Room := { frames := 6, cells := 0, slots := 0, locals := 151 }
set_option maxHeartbeats 4000000 in
set_option maxRecDepth 100000 in
/-- with -/
theorem t_b_with (l : Launch) (D : va_G) (h : Nat) (a : Nat → Nat) (dI dJ : ClassId) (vIs : Int32) (vLi : Int32) (vGc : Int32) (vSo : Int32) (vSc : Int32) (vLe : Int32) (fNu : Nat → Int32) (fCo : Nat → Int32) (fIx : Nat → Int32) (fNe : Nat → Int32) (fDi : Nat → Int32) (fBe : Nat → Int64) (fCr : Nat → Int32) (fCw : Nat → Int32) (fDo : Nat → Int32) (fCh : Nat → Int32) (fNx : Nat → Int32) (num : Nat → Nat) (x y : Int32) (hB : BBok num vIs vLi vGc vSo vSc vLe fNu fCo fIx fNe fDi fBe fCr fCw) (hSr : (gL num).length ≤ 8 → SrOK num) (sz : Nat) : Met l yX0_with (ws_ yX0_with cX0_with 3 (some .int)) rm_b_with (cP D (kB dI dJ) (bbW h a dI dJ vIs vLi vGc vSo vSc vLe fNu fCo fIx fNe fDi fBe fCr fCw fDo fCh fNx) sz [.ref h, .int x, .int y]) (cQi D (kB dI dJ) (bbW h a dI dJ vIs vLi vGc vSo vSc vLe fNu fCo fIx fNe fDi fBe fCr fCw fDo fCh fNx) sz (fun (r : Int32) (u : (Int32) × (Int32) × (Int32) × (Int32) × (Int32) × (Int32) × (Nat → Int32) × (Nat → Int32) × (Nat → Int32) × (Nat → Int32) × (Nat → Int32) × (Nat → Int64) × (Nat → Int32) × (Nat → Int32) × (Nat → Int32) × (Nat → Int32) × (Nat → Int32)) => BBok (num) u.1 u.2.1 u.2.2.1 u.2.2.2.1 u.2.2.2.2.1 u.2.2.2.2.2.1 u.2.2.2.2.2.2.1 u.2.2.2.2.2.2.2.1 u.2.2.2.2.2.2.2.2.1 u.2.2.2.2.2.2.2.2.2.1 u.2.2.2.2.2.2.2.2.2.2.1 u.2.2.2.2.2.2.2.2.2.2.2.1 u.2.2.2.2.2.2.2.2.2.2.2.2.1 u.2.2.2.2.2.2.2.2.2.2.2.2.2.1 ∧ r = rsW num x y) (fun (u : (Int32) × (Int32) × (Int32) × (Int32) × (Int32) × (Int32) × (Nat → Int32) × (Nat → Int32) × (Nat → Int32) × (Nat → Int32) × (Nat → Int32) × (Nat → Int64) × (Nat → Int32) × (Nat → Int32) × (Nat → Int32) × (Nat → Int32) × (Nat → Int32)) => bbW h a dI dJ u.1 u.2.1 u.2.2.1 u.2.2.2.1 u.2.2.2.2.1 u.2.2.2.2.2.1 u.2.2.2.2.2.2.1 u.2.2.2.2.2.2.2.1 u.2.2.2.2.2.2.2.2.1 u.2.2.2.2.2.2.2.2.2.1 u.2.2.2.2.2.2.2.2.2.2.1 u.2.2.2.2.2.2.2.2.2.2.2.1 u.2.2.2.2.2.2.2.2.2.2.2.2.1 u.2.2.2.2.2.2.2.2.2.2.2.2.2.1 u.2.2.2.2.2.2.2.2.2.2.2.2.2.2.1 u.2.2.2.2.2.2.2.2.2.2.2.2.2.2.2.1 u.2.2.2.2.2.2.2.2.2.2.2.2.2.2.2.2)) 0 0 (va_A (bbW h a dI dJ vIs vLi vGc vSo vSc vLe fNu fCo fIx fNe fDi fBe fCr fCw fDo fCh fNx) sz) := by
  refine en_i (by decide) (Nat.le_of_ble_eq_true rfl) ?_
  intro p e s m below meth c ls Q A hC hP hK hD hA hS hl hret
  have hC : CallFix p m c cX0_with 3 s _ lw_all RX0 := hC
  have hx := hC.1
  have hb := hC.2.1
  have hl : lv_has ls 3 [(0, .ref h), (1, .int x), (2, .int y)] := hl
  obtain ⟨hnu, h7, rfl, rfl, rfl, hLG, so, rfl, hRt⟩ := hB
  have h14 := gL_len h7
  refine lv_aload_n hx hb dX0_with_0 rfl (lv_at hl 0 rfl) ?_
  refine g0_gapCount hC hK hP dX0_with_1 ?_
  refine lv_bipush (v := nI 8) hx hb dX0_with_4 (by decide) ?_
  refine nb_le (tgt := 12) hx hb dX0_with_6 (by decide) (by omega) (by omega) (fun c1 => ?_) (fun c1 => ?_)
  · refine lv_iload_n hx hb dX0_with_12 rfl (lv_at hl 1 rfl) ?_
    refine lv_if_lt (tgt := 33) hx hb dX0_with_13 (by decide) (fun c2 => ?_) (fun c2 => ?_)
    · refine lv_iconst (v := (-1)) hx hb dX0_with_33 (by decide) ?_
      exact hret _ _ 34 _ _ (nI (rk num 36), nI (rk num 36), nI (gL num).length, bo so, vSc, vLe, fNu, fCo, fIx, fNe, fDi, fBe, fCr, fCw, fDo, fCh, fNx) dX0_with_34 (⟨⟨hnu, h7, rfl, rfl, rfl, hLG, so, rfl, hRt⟩, by rw [rsW, if_neg (by omega), if_pos c2]⟩) hP hD hS
    · obtain ⟨j0, hj0, rfl⟩ := nI_of c2
      refine lv_iload_n hx hb dX0_with_16 rfl (lv_at hl 1 rfl) ?_
      refine lv_aload_n hx hb dX0_with_17 rfl (lv_at hl 0 rfl) ?_
      refine g0_gapCount hC hK hP dX0_with_18 ?_
      refine nb_ge (tgt := 33) hx hb dX0_with_21 (by decide) (by omega) (by omega) (fun c3 => ?_) (fun c3 => ?_)
      · refine lv_iconst (v := (-1)) hx hb dX0_with_33 (by decide) ?_
        exact hret _ _ 34 _ _ (nI (rk num 36), nI (rk num 36), nI (gL num).length, bo so, vSc, vLe, fNu, fCo, fIx, fNe, fDi, fBe, fCr, fCw, fDo, fCh, fNx) dX0_with_34 (⟨⟨hnu, h7, rfl, rfl, rfl, hLG, so, rfl, hRt⟩, by rw [rsW, if_neg (by omega), if_neg c2, nI_clamp hj0, if_pos c3]⟩) hP hD hS
      · refine lv_iload_n hx hb dX0_with_24 rfl (lv_at hl 2 rfl) ?_
        refine lv_if_lt (tgt := 33) hx hb dX0_with_25 (by decide) (fun c4 => ?_) (fun c4 => ?_)
        · refine lv_iconst (v := (-1)) hx hb dX0_with_33 (by decide) ?_
          exact hret _ _ 34 _ _ (nI (rk num 36), nI (rk num 36), nI (gL num).length, bo so, vSc, vLe, fNu, fCo, fIx, fNe, fDi, fBe, fCr, fCw, fDo, fCh, fNx) dX0_with_34 (⟨⟨hnu, h7, rfl, rfl, rfl, hLG, so, rfl, hRt⟩, by rw [rsW, if_neg (by omega), if_neg c2, nI_clamp hj0, if_neg (by omega), if_pos (Or.inl c4)]⟩) hP hD hS
        · refine lv_iload_n hx hb dX0_with_28 rfl (lv_at hl 2 rfl) ?_
          refine lv_iconst (v := nI 2) hx hb dX0_with_29 (by decide) ?_
          refine lv_icmp_le (tgt := 35) hx hb dX0_with_30 (by decide) (fun c5 => ?_) (fun c5 => ?_)
          · have e0 : rsW num (nI j0) y = nI (cnW num j0 y.toNatClampNeg) := by rw [rsW, if_neg (by omega), if_neg c2, nI_clamp hj0, if_neg (by omega), if_neg (fun q => q.elim c4 (fun q => absurd c5 (Int32.not_le.mpr q)))]
            obtain ⟨b0, hb0, rfl⟩ := nI_of c4
            have hb2 : b0 ≤ 2 := (nI_leI hb0 (by decide)).mp c5
            have hI := bbI_of hnu h7 c1 hLG
            obtain ⟨Inv, hok, hinit⟩ := hSr c1
            have hs6 := sols_le c1
            refine lv_aload_n hx hb dX0_with_35 rfl (lv_at hl 0 rfl) ?_
            refine k_b_solve (so := so) (Inv := Inv) (Rt := Rt num) hC hK hP hD hS hA (by decide) hl.1 (Nat.le_of_ble_eq_true rfl) hI hok (hinit fDo fCh fNx fCw).1 (fun q => hRt q (by omega)) (fun _ => (hinit fDo fCh fNx fCw).2) dX0_with_36 (fun sc1 le1 cw1 dom1 ch1 nx1 H locs hR1 hP hD hS => ?_)
            obtain ⟨esc, hcw, hle⟩ := id hR1
            subst esc
            refine lv_aload_n hx hb dX0_with_39 rfl (lv_at hl 0 rfl) ?_
            refine g0_countWith hC hK hP dX0_with_40 ?_
            refine lv_iconst (v := nI 3) hx hb dX0_with_43 (by decide) ?_
            refine lv_iload_n hx hb dX0_with_44 rfl (lv_at hl 1 rfl) ?_
            refine nn_mul hx hb dX0_with_45 ?_
            refine lv_iload_n hx hb dX0_with_46 rfl (lv_at hl 2 rfl) ?_
            refine nn_add hx hb dX0_with_47 ?_
            refine l0_countWith hC hK hP (by omega) dX0_with_48 ?_
            refine ct_i (y := nI (cnW num j0 b0)) (hcw j0 b0 c3 (by omega)) ?_
            exact hret _ _ 49 _ _ (nI (rk num 36), nI (rk num 36), nI (gL num).length, bo true, nI (sols num).length, le1, fNu, fCo, fIx, fNe, fDi, fBe, fCr, cw1, dom1, ch1, nx1) dX0_with_49 (⟨⟨hnu, h7, rfl, rfl, rfl, hLG, true, rfl, fun _ _ => hR1⟩, by rw [e0, nI_clamp hb0]⟩) hP hD hS
          · refine lv_iconst (v := (-1)) hx hb dX0_with_33 (by decide) ?_
            exact hret _ _ 34 _ _ (nI (rk num 36), nI (rk num 36), nI (gL num).length, bo so, vSc, vLe, fNu, fCo, fIx, fNe, fDi, fBe, fCr, fCw, fDo, fCh, fNx) dX0_with_34 (⟨⟨hnu, h7, rfl, rfl, rfl, hLG, so, rfl, hRt⟩, by rw [rsW, if_neg (by omega), if_neg c2, nI_clamp hj0, if_neg (by omega), if_pos (Or.inr (show (2 : Int32) < y from Int32.not_le.mp c5))]⟩) hP hD hS
  · refine lv_bipush (v := (-2)) hx hb dX0_with_9 (by decide) ?_
    exact hret _ _ 11 _ _ (nI (rk num 36), nI (rk num 36), nI (gL num).length, bo so, vSc, vLe, fNu, fCo, fIx, fNe, fDi, fBe, fCr, fCw, fDo, fCh, fNx) dX0_with_11 (⟨⟨hnu, h7, rfl, rfl, rfl, hLG, so, rfl, hRt⟩, (if_pos c1).symm⟩) hP hD hS
end
section
/-! the reference's parts, as plain functions -/
def mdI (num : Nat → Nat) (fNu fNe fFa : Nat → Int32) (fBe : Nat → Int64) : Prop := (∀ c, c < 36 → fNu c = nI (num c) ∧ num c ≤ 8) ∧ rk num 36 ≤ 7 ∧ hdG (fun c => nI c) (gL num) fNe fFa fBe
def brI (fBr : Nat → Int32) (br : Nat → Nat) : Prop := ∀ g, g < 16 → fBr g = nI (br g) ∧ br g ≤ 2
def nxF : Nat → (Nat → Nat) → Bool × (Nat → Nat)
  | 0, br => (false, br)
  | g + 1, br => if br g < 2 then (true, setN br g (br g + 1)) else nxF g (setN br g 0)
def ctF (G : Nat) (P : (Nat → Nat) → Bool) : Nat → (Nat → Nat) → Nat → Nat
  | 0, _, acc => acc
  | k + 1, br, acc => if (nxF G br).1 then ctF G P k (nxF G br).2 (acc + (if P br then 1 else 0)) else acc + (if P br then 1 else 0)
def lsF (num : Nat → Nat) (g : Nat) : Nat → (Nat → Nat) → Int32
  | 0, _ => -1
  | k + 1, br => if mSol num br then nI (br g) else if (nxF (gL num).length br).1 then lsF num g k (nxF (gL num).length br).2 else -1
def selP (num : Nat → Nat) (x y : Int32) (br : Nat → Nat) : Bool := (decide (x < 0) || decide (nI (br x.toNatClampNeg) = y)) && mSol num br
def MDok (num : Nat → Nat) (fNu : Nat → Int32) : Prop := (∀ c, c < 36 → fNu c = nI (num c) ∧ num c ≤ 8) ∧ rk num 36 ≤ 7
theorem sub1_dp (d : Nat) : nI d - nI 1 = dpI d := by
  cases d with
  | zero => rfl
  | succ d => exact nI_pred d
theorem brI_set {fBr : Nat → Int32} {br : Nat → Nat} (h : brI fBr br) {g v : Nat} (hv : v ≤ 2) : brI (upd fBr g (nI v)) (setN br g v) := by
  intro j hj
  by_cases e : j = g
  · subst e; rw [pk_us, setN_s]; exact ⟨rfl, hv⟩
  · rw [pk_un e, setN_n e]; exact h j hj
theorem brI_0 (fBr : Nat → Int32) : brI (clr 16 fBr) (fun _ => 0) := by
  intro g hg
  exact ⟨if_pos hg, Nat.zero_le _⟩
theorem mSum_f {num f : Nat → Nat} {c : Nat} (hc : c < 36) (h : (if 0 < num c then mSm num f c (gL num).length else 0) ≠ num c) : mSum num f = false := by
  rw [mSum, List.all_eq_false]
  exact ⟨c, List.mem_range.mpr hc, by simpa using h⟩
theorem mSum_t {num f : Nat → Nat} (h : ∀ c, c < 36 → (if 0 < num c then mSm num f c (gL num).length else 0) = num c) : mSum num f = true := by
  rw [mSum, List.all_eq_true]
  intro c hc
  simpa using h c (List.mem_range.mp hc)
theorem mApt_f {num f : Nat → Nat} {g h : Nat} (hg : g < (gL num).length) (hh : h < g) (q : mAp1 num f g h = false) : mApt num f = false := by
  rw [mApt, List.all_eq_false]
  refine ⟨g, List.mem_range.mpr hg, ?_⟩
  intro z
  rw [List.all_eq_true] at z
  rw [z h (List.mem_range.mpr hh)] at q
  cases q
theorem mApt_t {num f : Nat → Nat} (q : ∀ g, g < (gL num).length → ∀ h, h < g → mAp1 num f g h = true) : mApt num f = true := by
  rw [mApt, List.all_eq_true]
  intro g hg
  rw [List.all_eq_true]
  intro h hh
  exact q g (List.mem_range.mp hg) h (List.mem_range.mp hh)
theorem mJoi_f {num f : Nat → Nat} {c : Nat} (hc : c < 36) (h : 0 < num c) (q : mjs num f 7 (mR0 num) c = false) : mJoi num f = false := by
  rw [mJoi, List.all_eq_false]
  refine ⟨c, List.mem_range.mpr hc, ?_⟩
  simp [q]; omega
theorem mJoi_t {num f : Nat → Nat} (q : ∀ c, c < 36 → 0 < num c → mjs num f 7 (mR0 num) c = true) : mJoi num f = true := by
  rw [mJoi, List.all_eq_true]
  intro c hc
  rcases Nat.eq_zero_or_pos (num c) with z | z
  · simp [z]
  · simp [q c (List.mem_range.mp hc) z]
theorem mSm_t {num f : Nat → Nat} {c g : Nat} (h : nrC num g = c ∨ frC num g = c) : mSm num f c (g + 1) = mSm num f c g + f g := by simp [mSm, sumT, h]
theorem mSm_n {num f : Nat → Nat} {c g : Nat} (h : ¬ (nrC num g = c ∨ frC num g = c)) : mSm num f c (g + 1) = mSm num f c g := by simp [mSm, sumT, h]
theorem mSm_le {num f : Nat → Nat} {c : Nat} : ∀ n, (∀ g, g < n → f g ≤ 2) → mSm num f c n ≤ 2 * n := by
  intro n
  induction n with
  | zero => intro _; exact Nat.le_refl _
  | succ n ih =>
    intro h
    have h1 := ih (fun g hg => h g (by omega))
    have h2 := h n (by omega)
    by_cases q : nrC num n = c ∨ frC num n = c
    · rw [mSm_t q]; omega
    · rw [mSm_n q]; omega
theorem off_n {x y : Int32} : (decide (x < 0) || decide (nI 5 < x) || decide (y < 0) || decide (nI 5 < y)) = !onb x y := by
  have e : ∀ z : Int32, decide (nI 5 < z) = !decide (z < 6) := by
    intro z
    have : (nI 5 < z) ↔ ¬ z < 6 := by
      rw [Int32.lt_iff_toInt_lt, Int32.lt_iff_toInt_lt]
      have e1 : (nI 5).toInt = 5 := rfl
      have e2 : (6 : Int32).toInt = 6 := rfl
      rw [e1, e2]; omega
    by_cases h : z < 6
    · rw [decide_eq_true h, decide_eq_false (fun q => (this.mp q) h)]; rfl
    · rw [decide_eq_false h, decide_eq_true (this.mpr h)]; rfl
  have e0 : ∀ z : Int32, decide (z < 0) = !decide (0 ≤ z) := by
    intro z
    by_cases h : (0 : Int32) ≤ z
    · rw [decide_eq_true h, decide_eq_false (Int32.not_lt.mpr h)]; rfl
    · rw [decide_eq_false h, decide_eq_true (Int32.not_le.mp h)]; rfl
  rw [e x, e y, e0 x, e0 y]
  simp [onb]
theorem mR0_t {num : Nat → Nat} {c : Nat} (h : 0 < num c) (h2 : rk num c = 0) : mR0 num c = true := by simp [mR0, h, h2]
theorem mR0_f {num : Nat → Nat} {c : Nat} (h : num c = 0 ∨ 0 < rk num c) : mR0 num c = false := by
  rcases h with h | h
  · simp [mR0, h]
  · simp [mR0]; omega
end
section
/-! BridgeBoardModel: off, held, look, survey, summed, apart -/
abbrev rm_m_off : Room := { frames := 0, cells := 0, slots := 0, locals := 0 }
set_option maxHeartbeats 4000000 in
set_option maxRecDepth 100000 in
/-- off -/
theorem t_m_off (l : Launch) (D : va_G)  (x y : Int32)  : Met l yX1_off (ws_ yX1_off cX1_off 2 (some .boolean)) rm_m_off (rP D [] [] [.int x, .int y]) (QcRead (bo (!onb x y))) 0 0 (fun _ => False) := by
  refine en_rz (by decide) (Nat.le_of_ble_eq_true rfl) ?_
  intro p e s m below meth c ls Q hC hP hK hl hret
  have hC : CallFix p m c cX1_off 2 s _ lw_all RX1 := hC
  have hx := hC.1
  have hb := hC.2.1
  have hl : lv_has ls 2 [(0, .int x), (1, .int y)] := hl
  refine lv_iload_n hx hb dX1_off_0 rfl (lv_at hl 0 rfl) ?_
  refine lv_if_lt (tgt := 18) hx hb dX1_off_1 (by decide) (fun c1 => ?_) (fun c1 => ?_)
  · refine lv_iconst (v := nI 1) hx hb dX1_off_18 (by decide) ?_
    refine lv_goto (tgt := 23) hx hb dX1_off_19 (by decide) ?_
    exact hret 23 _ _ dX1_off_23 (by rw [show (!onb x y) = true from by (rw [← off_n]; simp [c1])]; rfl)
  · refine lv_iload_n hx hb dX1_off_4 rfl (lv_at hl 0 rfl) ?_
    refine lv_iconst (v := nI 5) hx hb dX1_off_5 (by decide) ?_
    refine lv_icmp_gt (tgt := 18) hx hb dX1_off_6 (by decide) (fun c2 => ?_) (fun c2 => ?_)
    · refine lv_iconst (v := nI 1) hx hb dX1_off_18 (by decide) ?_
      refine lv_goto (tgt := 23) hx hb dX1_off_19 (by decide) ?_
      exact hret 23 _ _ dX1_off_23 (by rw [show (!onb x y) = true from by (rw [← off_n]; simp [c2])]; rfl)
    · refine lv_iload_n hx hb dX1_off_9 rfl (lv_at hl 1 rfl) ?_
      refine lv_if_lt (tgt := 18) hx hb dX1_off_10 (by decide) (fun c3 => ?_) (fun c3 => ?_)
      · refine lv_iconst (v := nI 1) hx hb dX1_off_18 (by decide) ?_
        refine lv_goto (tgt := 23) hx hb dX1_off_19 (by decide) ?_
        exact hret 23 _ _ dX1_off_23 (by rw [show (!onb x y) = true from by (rw [← off_n]; simp [c3])]; rfl)
      · refine lv_iload_n hx hb dX1_off_13 rfl (lv_at hl 1 rfl) ?_
        refine lv_iconst (v := nI 5) hx hb dX1_off_14 (by decide) ?_
        refine lv_icmp_le (tgt := 22) hx hb dX1_off_15 (by decide) (fun c4 => ?_) (fun c4 => ?_)
        · refine lv_iconst (v := nI 0) hx hb dX1_off_22 (by decide) ?_
          exact hret 23 _ _ dX1_off_23 (by rw [show (!onb x y) = false from by (rw [← off_n, decide_eq_false c1, decide_eq_false c2, decide_eq_false c3, decide_eq_false (Int32.not_lt.mpr c4)]; rfl)]; rfl)
        · refine lv_iconst (v := nI 1) hx hb dX1_off_18 (by decide) ?_
          refine lv_goto (tgt := 23) hx hb dX1_off_19 (by decide) ?_
          exact hret 23 _ _ dX1_off_23 (by rw [show (!onb x y) = true from by (rw [← off_n, decide_eq_true (Int32.not_le.mp c4)]; simp)]; rfl)
theorem k_m_off {p : Program} {l : Launch} {e : Env} {R : Room} {s : State} {m : MethodId} {args : Array Value} {below : List Frame} {meth : Method} {c : Code} {H : Heap} {locs : List Loc} {Q : State → Prop} {cc : ByteArray} {pc nL : Nat} {ls : Array Slot} {rest : List Value} {D : va_G} {ty : List (ClassId × FieldType)} {x y : Int32} (hC : CallFix p m c cc nL s args lw_all RX1) (hK : va_K D vwCl ty s) (hR : rm_m_off.frames + 1 ≤ R.frames ∧ 8 + (2 + 11) + rm_m_off.locals ≤ R.locals) (hl : ls.size = nL) (hW : (rest.map fun v => v.category).sum ≤ 8)  (hdg : decode cc pc = .ok (.invokestatic 30, 3)) (k : W p l e R s m args below meth c H locs 0 0 Q (F0 m (pc + 3) ls (.int (bo (!onb x y)) :: rest))) : W p l e R s m args below meth c H locs 0 0 Q (F0 m pc ls (.int y :: .int x :: rest)) := kr_S hC (t_m_off l D x y ) (va_cwS 2 hC.2.2.2.2 (lw_S q228 q229 q25 q230) rfl rfl rfl (by decide +kernel) hR) rfl hl rfl hW ⟨Nat.zero_le _, Nat.zero_le _⟩ (fun k q h => by simp at h) ⟨hK.1, fun k q h => by simp at h⟩ hdg k
abbrev rm_m_held : Room := { frames := 0, cells := 0, slots := 0, locals := 0 }
set_option maxHeartbeats 4000000 in
set_option maxRecDepth 100000 in
/-- held -/
theorem t_m_held (l : Launch) (D : va_G) (h : Nat) (a : Nat → Nat) (dI dJ dZ : ClassId) (vGa : Int32) (fNu : Nat → Int32) (fNe : Nat → Int32) (fFa : Nat → Int32) (fBe : Nat → Int64) (fBr : Nat → Int32) (fRe : Nat → Int32) (num : Nat → Nat) (hnu : ∀ c, c < 36 → fNu c = nI (num c) ∧ num c ≤ 8) : Met l yX1_held (ws_ yX1_held cX1_held 3 (some .int)) rm_m_held (rP D (kM dI dJ dZ) (mdW h a dI dJ dZ vGa fNu fNe fFa fBe fBr fRe) [.ref h]) (QcRead (nI (rk num 36))) 0 0 (fun _ => False) := by
  refine en_ri (by decide) (Nat.le_of_ble_eq_true rfl) ?_
  intro p e s m below meth c ls Q hC hP hK hl hret
  have hC : CallFix p m c cX1_held 3 s _ lw_all RX1 := hC
  have hx := hC.1
  have hb := hC.2.1
  have hl : lv_has ls 3 [(0, .ref h)] := hl
  have lp : ∀ (n : Nat) (c0 : Nat) (ls : Array Slot), (c0 ≤ 36) → 36 < c0 + n → lv_has ls 3 [(0, .ref h), (1, .int (nI (rk num c0))), (2, .int (nI c0))] → W p l e rm_m_held s m ([.ref h] : List Value).toArray below meth c s.heap [] 0 0 Q (F0 m 4 ls []) := by
    intro n
    induction n with
    | zero =>
      intro c0 ls hc hfu
      exact absurd hfu (by omega)
    | succ n ih =>
      intro c0 ls hc hfu hl
      refine lv_iload_n hx hb dX1_held_4 rfl (lv_at hl 2 rfl) ?_
      refine lv_bipush (v := nI 36) hx hb dX1_held_5 (by decide) ?_
      refine nb_ge (tgt := 28) hx hb dX1_held_7 (by decide) (by omega) (by omega) (fun c1 => ?_) (fun c1 => ?_)
      · refine lv_iload_n hx hb dX1_held_28 rfl (lv_at hl 1 rfl) ?_
        exact hret 29 _ _ dX1_held_29 (by rw [show c0 = 36 by omega])
      · have hn8 := (hnu c0 c1).2
        refine lv_aload_n hx hb dX1_held_10 rfl (lv_at hl 0 rfl) ?_
        refine g1_number hC hK hP dX1_held_11 ?_
        refine lv_iload_n hx hb dX1_held_14 rfl (lv_at hl 2 rfl) ?_
        refine l1_number hC hK hP (by omega) dX1_held_15 ?_
        refine ct_i (y := nI (num c0)) ((hnu c0 c1).1) ?_
        refine nz_le (tgt := 22) hx hb dX1_held_16 (by decide) (by omega) (fun c2 => ?_) (fun c2 => ?_)
        · refine lv_iinc (v := nI (c0 + 1)) (lv' := [(2, .int (nI (c0 + 1))), (0, .ref h), (1, .int (nI (rk num c0)))]) hx hb dX1_held_22 hl (k := 2) rfl (nI_1 _) (by decide) rfl (fun ls hl => ?_)
          refine lv_goto (tgt := 4) hx hb dX1_held_25 (by decide) ?_
          exact ih (c0 + 1) _ (by omega) (by omega) (by rw [rk_f c2]; exact (lv_sub hl [1, 2, 0] rfl))
        · refine lv_iinc (v := nI ((rk num c0) + 1)) (lv' := [(1, .int (nI ((rk num c0) + 1))), (0, .ref h), (2, .int (nI c0))]) hx hb dX1_held_19 hl (k := 1) rfl (nI_1 _) (by decide) rfl (fun ls hl => ?_)
          refine lv_iinc (v := nI (c0 + 1)) (lv' := [(2, .int (nI (c0 + 1))), (1, .int (nI ((rk num c0) + 1))), (0, .ref h)]) hx hb dX1_held_22 hl (k := 2) rfl (nI_1 _) (by decide) rfl (fun ls hl => ?_)
          refine lv_goto (tgt := 4) hx hb dX1_held_25 (by decide) ?_
          exact ih (c0 + 1) _ (by omega) (by omega) (by rw [rk_t c2]; exact (lv_sub hl [2, 1, 0] rfl))
  refine lv_iconst (v := nI 0) hx hb dX1_held_0 (by decide) ?_
  refine lv_istore_n (lv' := [(1, .int (nI 0)), (0, .ref h)]) hx hb dX1_held_1 rfl hl (by decide) rfl (fun ls hl => ?_)
  refine lv_iconst (v := nI 0) hx hb dX1_held_2 (by decide) ?_
  refine lv_istore_n (lv' := [(2, .int (nI 0)), (1, .int (nI 0)), (0, .ref h)]) hx hb dX1_held_3 rfl hl (by decide) rfl (fun ls hl => ?_)
  exact lp 37 0 _ (by omega) (by omega) (lv_sub hl [2, 1, 0] rfl)
theorem k_m_held {p : Program} {l : Launch} {e : Env} {R : Room} {s : State} {m : MethodId} {args : Array Value} {below : List Frame} {meth : Method} {c : Code} {H : Heap} {locs : List Loc} {Q : State → Prop} {cc : ByteArray} {pc nL : Nat} {ls : Array Slot} {rest : List Value} {D : va_G} {h : Nat} {a : Nat → Nat} {dI dJ dZ : ClassId} {vGa : Int32} {fNu : Nat → Int32} {fNe : Nat → Int32} {fFa : Nat → Int32} {fBe : Nat → Int64} {fBr : Nat → Int32} {fRe : Nat → Int32} {num : Nat → Nat} (hC : CallFix p m c cc nL s args lw_all RX1) (hK : va_K D vwCl (kM dI dJ dZ) s) (hP : va_P D vwCl (mdW h a dI dJ dZ vGa fNu fNe fFa fBe fBr fRe) H) (hR : rm_m_held.frames + 1 ≤ R.frames ∧ 8 + (3 + 11) + rm_m_held.locals ≤ R.locals) (hl : ls.size = nL) (hW : (rest.map fun v => v.category).sum ≤ 8) (hnu : ∀ c, c < 36 → fNu c = nI (num c) ∧ num c ≤ 8) (hdg : decode cc pc = .ok (.invokevirtual 34, 3)) (k : W p l e R s m args below meth c H locs 0 0 Q (F0 m (pc + 3) ls (.int (nI (rk num 36)) :: rest))) : W p l e R s m args below meth c H locs 0 0 Q (F0 m pc ls (.ref h :: rest)) := kr_V hC (t_m_held l D h a dI dJ dZ vGa fNu fNe fFa fBe fBr fRe num hnu) (cwV 0 hC.2.2.2.2 (lw_V q231 q233 qs13 q25 q234) rfl rfl rfl (by decide +kernel) hR) rfl rfl rfl hl rfl hW ⟨Nat.zero_le _, Nat.zero_le _⟩ hP hK hdg k
abbrev rm_m_look : Room := { frames := 0, cells := 0, slots := 0, locals := 0 }
set_option maxHeartbeats 4000000 in
set_option maxRecDepth 100000 in
/-- look -/
theorem t_m_look (l : Launch) (D : va_G) (h : Nat) (a : Nat → Nat) (dI dJ dZ : ClassId) (fNu : Nat → Int32) (fNe : Nat → Int32) (fFa : Nat → Int32) (fBe : Nat → Int64) (fBr : Nat → Int32) (fRe : Nat → Int32) (num : Nat → Nat) (c0 st room g0 : Nat) (hnu : ∀ c, c < 36 → fNu c = nI (num c) ∧ num c ≤ 8) (hin : ∀ k, k ≤ room → c0 + st * k < 36) (hro : room ≤ 5) (hg0 : g0 < 16) (sz : Nat) : Met l yX1_look (ws_ yX1_look cX1_look 8 none) rm_m_look (cP D (kM dI dJ dZ) (mdW h a dI dJ dZ (nI g0) fNu fNe fFa fBe fBr fRe) sz [.ref h, .int (nI c0), .int (nI st), .int (nI room)]) (cQv D (kM dI dJ dZ) (mdW h a dI dJ dZ (nI g0) fNu fNe fFa fBe fBr fRe) sz (fun (u : Unit) => True) (fun (u : Unit) => mdW h a dI dJ dZ (nI (lkG (lkF num c0 st room 1 0) g0)) fNu (lkU (lkF num c0 st room 1 0) fNe g0 (fun _ => nI c0)) (lkU (lkF num c0 st room 1 0) fFa g0 (fun c => nI c)) (lkB (lkF num c0 st room 1 0) fBe g0) fBr fRe)) 0 0 (va_A (mdW h a dI dJ dZ (nI g0) fNu fNe fFa fBe fBr fRe) sz) := by
  refine en_v (by decide) (Nat.le_of_ble_eq_true rfl) ?_
  intro p e s m below meth c ls Q A hC hP hK hD hA hS hl hret
  have hC : CallFix p m c cX1_look 8 s _ lw_all RX1 := hC
  have hx := hC.1
  have hb := hC.2.1
  have hl : lv_has ls 8 [(0, .ref h), (1, .int (nI c0)), (2, .int (nI st)), (3, .int (nI room))] := hl
  have lp : ∀ (n : Nat) (k : Nat) (m0 : Int64) (ls : Array Slot), (k ≤ room) → (lkF num c0 st (room - k) (k + 1) m0 = lkF num c0 st room 1 0) → room < k + n → ∀ (H : Heap) (locs : List Loc), va_P D vwCl (mdW h a dI dJ dZ (nI g0) fNu fNe fFa fBe fBr fRe) H → va_D A (mdW h a dI dJ dZ (nI g0) fNu fNe fFa fBe fBr fRe) → va_S A s.heap H locs → lv_has ls 8 [(0, .ref h), (1, .int (nI c0)), (2, .int (nI st)), (3, .int (nI room)), (4, .long m0), (6, .int (nI (c0 + st * k))), (7, .int (nI k))] → W p l e rm_m_look s m ([.ref h, .int (nI c0), .int (nI st), .int (nI room)] : List Value).toArray below meth c H locs 0 0 Q (F0 m 9 ls []) := by
    intro n
    induction n with
    | zero =>
      intro k m0 ls hk he hfu
      exact absurd hfu (by omega)
    | succ n ih =>
      intro k m0 ls hk he hfu H locs hP hD hS hl
      refine lv_iload hx hb dX1_look_9 (lv_at hl 6 rfl) ?_
      refine lv_iload_n hx hb dX1_look_11 rfl (lv_at hl 3 rfl) ?_
      refine nb_ge (tgt := 106) hx hb dX1_look_12 (by decide) (by omega) (by omega) (fun c1 => ?_) (fun c1 => ?_)
      · rw [show room - k = 0 by omega, lkF] at he
        rw [← he] at hret
        exact hret _ _ 106 _ () dX1_look_106 trivial hP hD hS
      · rw [show room - k = (room - (k + 1)) + 1 by omega, lkF] at he
        have hc6 := hin (k + 1) c1
        have eat : c0 + st * k + st = c0 + st * (k + 1) := by rw [Nat.mul_succ]; omega
        refine lv_iload hx hb dX1_look_15 (lv_at hl 5 rfl) ?_
        refine lv_iload_n hx hb dX1_look_17 rfl (lv_at hl 2 rfl) ?_
        refine nn_add hx hb dX1_look_18 ?_
        refine ct_i (y := nI (c0 + st * (k + 1))) (congrArg nI eat) ?_
        refine lv_istore (lv' := [(6, .int (nI (c0 + st * (k + 1)))), (0, .ref h), (1, .int (nI c0)), (2, .int (nI st)), (3, .int (nI room)), (4, .long m0), (7, .int (nI k))]) hx hb dX1_look_19 hl (by decide) rfl (fun ls hl => ?_)
        refine lv_iload hx hb dX1_look_21 (lv_at hl 0 rfl) ?_
        refine lv_bipush (v := nI 35) hx hb dX1_look_23 (by decide) ?_
        refine nb_le (tgt := 29) hx hb dX1_look_25 (by decide) (by omega) (by omega) (fun c2 => ?_) (fun c2 => ?_)
        · have hn8 := (hnu _ hc6).2
          refine lv_aload_n hx hb dX1_look_29 rfl (lv_at hl 1 rfl) ?_
          refine g1_number hC hK hP dX1_look_30 ?_
          refine lv_iload hx hb dX1_look_33 (lv_at hl 0 rfl) ?_
          refine l1_number hC hK hP (hc6) dX1_look_35 ?_
          refine ct_i (y := nI (num (c0 + st * (k + 1)))) ((hnu _ hc6).1) ?_
          refine nz_le (tgt := 91) hx hb dX1_look_36 (by decide) (by omega) (fun c3 => ?_) (fun c3 => ?_)
          · rw [if_neg (by omega)] at he
            refine lv_lload hx hb dX1_look_91 (lv_at hl 5 rfl) ?_
            refine lv_lconst (v := 1) hx hb dX1_look_93 (by decide) ?_
            refine lv_iload hx hb dX1_look_94 (lv_at hl 0 rfl) ?_
            refine lv_lshl (v := (1 : Int64) <<< ((nI (c0 + st * (k + 1))).toInt64 &&& 63)) hx hb dX1_look_96 rfl ?_
            refine lv_lor hx hb dX1_look_97 ?_
            refine ct_l (y := m0 ||| msk (c0 + st * (k + 1))) (rfl) ?_
            refine lv_lstore (lv' := [(4, .long (m0 ||| msk (c0 + st * (k + 1)))), (6, .int (nI (c0 + st * (k + 1)))), (0, .ref h), (1, .int (nI c0)), (2, .int (nI st)), (3, .int (nI room)), (7, .int (nI k))]) hx hb dX1_look_98 hl (by decide) rfl (fun ls hl => ?_)
            refine lv_iinc (v := nI (k + 1)) (lv' := [(7, .int (nI (k + 1))), (4, .long (m0 ||| msk (c0 + st * (k + 1)))), (6, .int (nI (c0 + st * (k + 1)))), (0, .ref h), (1, .int (nI c0)), (2, .int (nI st)), (3, .int (nI room))]) hx hb dX1_look_100 hl (k := 6) rfl (nI_1 _) (by decide) rfl (fun ls hl => ?_)
            refine lv_goto (tgt := 9) hx hb dX1_look_103 (by decide) ?_
            exact ih (k + 1) _ _ (by omega) he (by omega) _ _ hP hD hS (lv_sub hl [3, 4, 5, 6, 1, 2, 0] rfl)
          · rw [if_pos c3] at he
            rw [← he] at hret
            refine lv_aload_n hx hb dX1_look_39 rfl (lv_at hl 1 rfl) ?_
            refine g1_gaps hC hK hP dX1_look_40 ?_
            refine lv_bipush (v := nI 16) hx hb dX1_look_43 (by decide) ?_
            refine nb_ge (tgt := 90) hx hb dX1_look_45 (by decide) (by omega) (by omega) (fun c4 => ?_) (fun c4 => ?_)
            · exact absurd c4 (by omega)
            · refine lv_aload_n hx hb dX1_look_48 rfl (lv_at hl 1 rfl) ?_
              refine g1_near hC hK hP dX1_look_49 ?_
              refine lv_aload_n hx hb dX1_look_52 rfl (lv_at hl 1 rfl) ?_
              refine g1_gaps hC hK hP dX1_look_53 ?_
              refine lv_iload_n hx hb dX1_look_56 rfl (lv_at hl 2 rfl) ?_
              refine s1_near hC hK hP hD hS (by omega) dX1_look_57 (fun H locs hP hD hS => ?_)
              refine lv_aload_n hx hb dX1_look_58 rfl (lv_at hl 1 rfl) ?_
              refine g1_far hC hK hP dX1_look_59 ?_
              refine lv_aload_n hx hb dX1_look_62 rfl (lv_at hl 1 rfl) ?_
              refine g1_gaps hC hK hP dX1_look_63 ?_
              refine lv_iload hx hb dX1_look_66 (lv_at hl 0 rfl) ?_
              refine s1_far hC hK hP hD hS (by omega) dX1_look_68 (fun H locs hP hD hS => ?_)
              refine lv_aload_n hx hb dX1_look_69 rfl (lv_at hl 1 rfl) ?_
              refine g1_between hC hK hP dX1_look_70 ?_
              refine lv_aload_n hx hb dX1_look_73 rfl (lv_at hl 1 rfl) ?_
              refine g1_gaps hC hK hP dX1_look_74 ?_
              refine lv_lload hx hb dX1_look_77 (lv_at hl 5 rfl) ?_
              refine s1_between hC hK hP hD hS (by omega) dX1_look_79 (fun H locs hP hD hS => ?_)
              refine lv_aload_n hx hb dX1_look_80 rfl (lv_at hl 1 rfl) ?_
              refine lv_dup hx hb dX1_look_81 rfl ?_
              refine g1_gaps hC hK hP dX1_look_82 ?_
              refine lv_iconst (v := nI 1) hx hb dX1_look_85 (by decide) ?_
              refine nn_add hx hb dX1_look_86 ?_
              refine p1_gaps hC hK hP hD hS dX1_look_87 (fun H locs hP hD hS => ?_)
              exact hret _ _ 90 _ () dX1_look_90 trivial hP hD hS
        · exact absurd c2 (by omega)
  refine lv_lconst (v := 0) hx hb dX1_look_0 (by decide) ?_
  refine lv_lstore (lv' := [(4, .long (0 : Int64)), (0, .ref h), (1, .int (nI c0)), (2, .int (nI st)), (3, .int (nI room))]) hx hb dX1_look_1 hl (by decide) rfl (fun ls hl => ?_)
  refine lv_iload_n hx hb dX1_look_3 rfl (lv_at hl 2 rfl) ?_
  refine lv_istore (lv' := [(6, .int (nI c0)), (4, .long (0 : Int64)), (0, .ref h), (1, .int (nI c0)), (2, .int (nI st)), (3, .int (nI room))]) hx hb dX1_look_4 hl (by decide) rfl (fun ls hl => ?_)
  refine lv_iconst (v := nI 0) hx hb dX1_look_6 (by decide) ?_
  refine lv_istore (lv' := [(7, .int (nI 0)), (6, .int (nI c0)), (4, .long (0 : Int64)), (0, .ref h), (1, .int (nI c0)), (2, .int (nI st)), (3, .int (nI room))]) hx hb dX1_look_7 hl (by decide) rfl (fun ls hl => ?_)
  exact lp (room + 1) 0 _ _ (by omega) rfl (by omega) _ _ hP hD hS (lv_sub hl [3, 4, 5, 6, 2, 1, 0] rfl)
theorem k_m_look {p : Program} {l : Launch} {e : Env} {R : Room} {s : State} {m : MethodId} {args : Array Value} {below : List Frame} {meth : Method} {c : Code} {H : Heap} {locs : List Loc} {Q : State → Prop} {cc : ByteArray} {pc nL : Nat} {ls : Array Slot} {rest : List Value} {D : va_G} {A : Nat → Prop} {H0 : Heap} {h : Nat} {a : Nat → Nat} {dI dJ dZ : ClassId} {fNu : Nat → Int32} {fNe : Nat → Int32} {fFa : Nat → Int32} {fBe : Nat → Int64} {fBr : Nat → Int32} {fRe : Nat → Int32} {num : Nat → Nat} {c0 st room g0 : Nat} (hC : CallFix p m c cc nL s args lw_all RX1) (hK : va_K D vwCl (kM dI dJ dZ) s) (hP : va_P D vwCl (mdW h a dI dJ dZ (nI g0) fNu fNe fFa fBe fBr fRe) H) (hD : va_D A (mdW h a dI dJ dZ (nI g0) fNu fNe fFa fBe fBr fRe)) (hS : va_S A H0 H locs) (hA : ∀ q, H0.size ≤ q → A q) (hR : rm_m_look.frames + 1 ≤ R.frames ∧ 8 + (8 + 11) + rm_m_look.locals ≤ R.locals) (hl : ls.size = nL) (hW : (rest.map fun v => v.category).sum ≤ 8) (hnu : ∀ c, c < 36 → fNu c = nI (num c) ∧ num c ≤ 8) (hin : ∀ k, k ≤ room → c0 + st * k < 36) (hro : room ≤ 5) (hg0 : g0 < 16) (hdg : decode cc pc = .ok (.invokevirtual 42, 3)) (kk : ∀  (H1 : Heap) (locs1 : List Loc), (True) → va_P D vwCl (mdW h a dI dJ dZ (nI (lkG (lkF num c0 st room 1 0) g0)) fNu (lkU (lkF num c0 st room 1 0) fNe g0 (fun _ => nI c0)) (lkU (lkF num c0 st room 1 0) fFa g0 (fun c => nI c)) (lkB (lkF num c0 st room 1 0) fBe g0) fBr fRe) H1 → va_D A (mdW h a dI dJ dZ (nI (lkG (lkF num c0 st room 1 0) g0)) fNu (lkU (lkF num c0 st room 1 0) fNe g0 (fun _ => nI c0)) (lkU (lkF num c0 st room 1 0) fFa g0 (fun c => nI c)) (lkB (lkF num c0 st room 1 0) fBe g0) fBr fRe) → va_S A H0 H1 locs1 → W p l e R s m args below meth c H1 locs1 0 0 Q (F0 m (pc + 3) ls rest)) : W p l e R s m args below meth c H locs 0 0 Q (F0 m pc ls (.int (nI room) :: .int (nI st) :: .int (nI c0) :: .ref h :: rest)) := km_v hC (t_m_look l D h a dI dJ dZ fNu fNe fFa fBe fBr fRe num c0 st room g0 hnu hin hro hg0 H.size) (cwV 3 hC.2.2.2.2 (lw_V q251 q253 qs15 q25 q254) rfl rfl rfl (by decide +kernel) hR) rfl rfl rfl hl rfl hW ⟨Nat.zero_le _, Nat.zero_le _⟩ hP hK hD hS hA hdg (fun u H1 locs1 a1 a2 a3 a4 => kk  H1 locs1 a1 a2 a3 a4)
abbrev rm_m_survey : Room := { frames := 1, cells := 0, slots := 0, locals := 27 }
set_option maxHeartbeats 4000000 in
set_option maxRecDepth 100000 in
/-- survey -/
theorem t_m_survey (l : Launch) (D : va_G) (h : Nat) (a : Nat → Nat) (dI dJ dZ : ClassId) (vGa : Int32) (fNu : Nat → Int32) (fNe : Nat → Int32) (fFa : Nat → Int32) (fBe : Nat → Int64) (fBr : Nat → Int32) (fRe : Nat → Int32) (num : Nat → Nat) (hnu : ∀ c, c < 36 → fNu c = nI (num c) ∧ num c ≤ 8) (h7 : rk num 36 ≤ 7) (sz : Nat) : Met l yX1_survey (ws_ yX1_survey cX1_survey 2 none) rm_m_survey (cP D (kM dI dJ dZ) (mdW h a dI dJ dZ vGa fNu fNe fFa fBe fBr fRe) sz [.ref h]) (cQv D (kM dI dJ dZ) (mdW h a dI dJ dZ vGa fNu fNe fFa fBe fBr fRe) sz (fun (u : (Nat → Int32) × (Nat → Int32) × (Nat → Int64)) => mdI num fNu u.1 u.2.1 u.2.2) (fun (u : (Nat → Int32) × (Nat → Int32) × (Nat → Int64)) => mdW h a dI dJ dZ (nI (gL num).length) fNu u.1 u.2.1 u.2.2 fBr fRe)) 0 0 (va_A (mdW h a dI dJ dZ vGa fNu fNe fFa fBe fBr fRe) sz) := by
  refine en_v (by decide) (Nat.le_of_ble_eq_true rfl) ?_
  intro p e s m below meth c ls Q A hC hP hK hD hA hS hl hret
  have hC : CallFix p m c cX1_survey 2 s _ lw_all RX1 := hC
  have hx := hC.1
  have hb := hC.2.1
  have hl : lv_has ls 2 [(0, .ref h)] := hl
  have lp : ∀ (n : Nat) (c0 : Nat) (ne1 fa1 : Nat → Int32) (be1 : Nat → Int64) (ls : Array Slot), (c0 ≤ 36) → (hdG (fun c => nI c) (gi num (rk num c0)) ne1 fa1 be1) → 36 < c0 + n → ∀ (H : Heap) (locs : List Loc), va_P D vwCl (mdW h a dI dJ dZ (nI (gi num (rk num c0)).length) fNu ne1 fa1 be1 fBr fRe) H → va_D A (mdW h a dI dJ dZ (nI (gi num (rk num c0)).length) fNu ne1 fa1 be1 fBr fRe) → va_S A s.heap H locs → lv_has ls 2 [(0, .ref h), (1, .int (nI c0))] → W p l e rm_m_survey s m ([.ref h] : List Value).toArray below meth c H locs 0 0 Q (F0 m 7 ls []) := by
    intro n
    induction n with
    | zero =>
      intro c0 ne1 fa1 be1 ls hc hd hfu
      exact absurd hfu (by omega)
    | succ n ih =>
      intro c0 ne1 fa1 be1 ls hc hd hfu H locs hP hD hS hl
      refine lv_iload_n hx hb dX1_survey_7 rfl (lv_at hl 1 rfl) ?_
      refine lv_bipush (v := nI 36) hx hb dX1_survey_8 (by decide) ?_
      refine nb_ge (tgt := 53) hx hb dX1_survey_10 (by decide) (by omega) (by omega) (fun c1 => ?_) (fun c1 => ?_)
      · obtain rfl : 36 = c0 := by omega
        exact hret _ _ 53 _ (ne1, fa1, be1) dX1_survey_53 (⟨hnu, h7, hd⟩) hP hD hS
      · have hn8 := (hnu c0 c1).2
        have hgl := gi_len num (rk num c0)
        have hr7 := rk_mono num (show c0 ≤ 36 by omega)
        refine lv_aload_n hx hb dX1_survey_13 rfl (lv_at hl 0 rfl) ?_
        refine g1_number hC hK hP dX1_survey_14 ?_
        refine lv_iload_n hx hb dX1_survey_17 rfl (lv_at hl 1 rfl) ?_
        refine l1_number hC hK hP (by omega) dX1_survey_18 ?_
        refine ct_i (y := nI (num c0)) ((hnu c0 c1).1) ?_
        refine nz_le (tgt := 47) hx hb dX1_survey_19 (by decide) (by omega) (fun c2 => ?_) (fun c2 => ?_)
        · refine lv_iinc (v := nI (c0 + 1)) (lv' := [(1, .int (nI (c0 + 1))), (0, .ref h)]) hx hb dX1_survey_47 hl (k := 1) rfl (nI_1 _) (by decide) rfl (fun ls hl => ?_)
          refine lv_goto (tgt := 7) hx hb dX1_survey_50 (by decide) ?_
          exact ih (c0 + 1) _ _ _ _ (by omega) (by rw [rk_f c2]; exact hd) (by omega) _ _ (by rw [rk_f c2]; exact hP) (by rw [rk_f c2]; exact hD) hS (lv_sub hl [1, 0] rfl)
        · have hr8 := rk_lt num c2 c1
          refine lv_aload_n hx hb dX1_survey_22 rfl (lv_at hl 0 rfl) ?_
          refine lv_iload_n hx hb dX1_survey_23 rfl (lv_at hl 1 rfl) ?_
          refine lv_iconst (v := nI 1) hx hb dX1_survey_24 (by decide) ?_
          refine lv_iconst (v := nI 5) hx hb dX1_survey_25 (by decide) ?_
          refine lv_iload_n hx hb dX1_survey_26 rfl (lv_at hl 1 rfl) ?_
          refine lv_bipush (v := nI 6) hx hb dX1_survey_27 (by decide) ?_
          refine nn_rem hx hb (by omega) (by decide) (by decide) dX1_survey_29 ?_
          refine nn_sub hx hb (by omega) dX1_survey_30 ?_
          refine k_m_look (num := num) hC hK hP hD hS hA (by decide) hl.1 (Nat.le_of_ble_eq_true rfl) hnu (by intro k hk; omega) (by omega) (by omega) dX1_survey_31 (fun  H locs _ hP hD hS => ?_)
          obtain ⟨hd1, hl1⟩ := hdG_look hd num c0 1 (5 - c0 % 6)
          rw [← hl1] at hP hD
          generalize lkU (lkF num c0 1 (5 - (c0 % 6)) 1 0) ne1 ((gi num (rk num c0)).length) (fun _ => nI c0) = ne19 at hP hD hd1
          generalize lkU (lkF num c0 1 (5 - (c0 % 6)) 1 0) fa1 ((gi num (rk num c0)).length) (fun c => nI c) = fa19 at hP hD hd1
          generalize lkB (lkF num c0 1 (5 - (c0 % 6)) 1 0) be1 ((gi num (rk num c0)).length) = be19 at hP hD hd1
          have hgl1 : (gi num (rk num c0) ++ lkL num c0 1 (5 - c0 % 6)).length ≤ 2 * rk num c0 + 1 := by have := lkL_len num c0 1 (5 - c0 % 6); rw [List.length_append]; omega
          refine lv_aload_n hx hb dX1_survey_34 rfl (lv_at hl 0 rfl) ?_
          refine lv_iload_n hx hb dX1_survey_35 rfl (lv_at hl 1 rfl) ?_
          refine lv_bipush (v := nI 6) hx hb dX1_survey_36 (by decide) ?_
          refine lv_iconst (v := nI 5) hx hb dX1_survey_38 (by decide) ?_
          refine lv_iload_n hx hb dX1_survey_39 rfl (lv_at hl 1 rfl) ?_
          refine lv_bipush (v := nI 6) hx hb dX1_survey_40 (by decide) ?_
          refine nn_div hx hb (by omega) (by decide) (by decide) dX1_survey_42 ?_
          refine nn_sub hx hb (by omega) dX1_survey_43 ?_
          refine k_m_look (num := num) hC hK hP hD hS hA (by decide) hl.1 (Nat.le_of_ble_eq_true rfl) hnu (by intro k hk; omega) (by omega) (by omega) dX1_survey_44 (fun  H locs _ hP hD hS => ?_)
          obtain ⟨hd2, hl2⟩ := hdG_look hd1 num c0 6 (5 - c0 / 6)
          rw [← hl2] at hP hD
          generalize lkU (lkF num c0 6 (5 - (c0 / 6)) 1 0) ne19 ((gi num (rk num c0) ++ lkL num c0 1 (5 - c0 % 6)).length) (fun _ => nI c0) = ne29 at hP hD hd2
          generalize lkU (lkF num c0 6 (5 - (c0 / 6)) 1 0) fa19 ((gi num (rk num c0) ++ lkL num c0 1 (5 - c0 % 6)).length) (fun c => nI c) = fa29 at hP hD hd2
          generalize lkB (lkF num c0 6 (5 - (c0 / 6)) 1 0) be19 ((gi num (rk num c0) ++ lkL num c0 1 (5 - c0 % 6)).length) = be29 at hP hD hd2
          have eg : gi num (rk num (c0 + 1)) = (gi num (rk num c0) ++ lkL num c0 1 (5 - c0 % 6)) ++ lkL num c0 6 (5 - c0 / 6) := by rw [rk_t c2, gi_s, co_rk num c2 c1]
          rw [← eg] at hP hD hd2
          refine lv_iinc (v := nI (c0 + 1)) (lv' := [(1, .int (nI (c0 + 1))), (0, .ref h)]) hx hb dX1_survey_47 hl (k := 1) rfl (nI_1 _) (by decide) rfl (fun ls hl => ?_)
          refine lv_goto (tgt := 7) hx hb dX1_survey_50 (by decide) ?_
          exact ih (c0 + 1) _ _ _ _ (by omega) hd2 (by omega) _ _ hP hD hS (lv_sub hl [1, 0] rfl)
  refine lv_aload_n hx hb dX1_survey_0 rfl (lv_at hl 0 rfl) ?_
  refine lv_iconst (v := nI 0) hx hb dX1_survey_1 (by decide) ?_
  refine p1_gaps hC hK hP hD hS dX1_survey_2 (fun H locs hP hD hS => ?_)
  refine lv_iconst (v := nI 0) hx hb dX1_survey_5 (by decide) ?_
  refine lv_istore_n (lv' := [(1, .int (nI 0)), (0, .ref h)]) hx hb dX1_survey_6 rfl hl (by decide) rfl (fun ls hl => ?_)
  exact lp 37 0 _ _ _ _ (by omega) hdG_0 (by omega) _ _ hP hD hS (lv_sub hl [1, 0] rfl)
theorem k_m_survey {p : Program} {l : Launch} {e : Env} {R : Room} {s : State} {m : MethodId} {args : Array Value} {below : List Frame} {meth : Method} {c : Code} {H : Heap} {locs : List Loc} {Q : State → Prop} {cc : ByteArray} {pc nL : Nat} {ls : Array Slot} {rest : List Value} {D : va_G} {A : Nat → Prop} {H0 : Heap} {h : Nat} {a : Nat → Nat} {dI dJ dZ : ClassId} {vGa : Int32} {fNu : Nat → Int32} {fNe : Nat → Int32} {fFa : Nat → Int32} {fBe : Nat → Int64} {fBr : Nat → Int32} {fRe : Nat → Int32} {num : Nat → Nat} (hC : CallFix p m c cc nL s args lw_all RX1) (hK : va_K D vwCl (kM dI dJ dZ) s) (hP : va_P D vwCl (mdW h a dI dJ dZ vGa fNu fNe fFa fBe fBr fRe) H) (hD : va_D A (mdW h a dI dJ dZ vGa fNu fNe fFa fBe fBr fRe)) (hS : va_S A H0 H locs) (hA : ∀ q, H0.size ≤ q → A q) (hR : rm_m_survey.frames + 1 ≤ R.frames ∧ 8 + (2 + 11) + rm_m_survey.locals ≤ R.locals) (hl : ls.size = nL) (hW : (rest.map fun v => v.category).sum ≤ 8) (hnu : ∀ c, c < 36 → fNu c = nI (num c) ∧ num c ≤ 8) (h7 : rk num 36 ≤ 7) (hdg : decode cc pc = .ok (.invokevirtual 46, 3)) (kk : ∀ (ne1 : Nat → Int32) (fa1 : Nat → Int32) (be1 : Nat → Int64) (H1 : Heap) (locs1 : List Loc), (mdI num fNu ne1 fa1 be1) → va_P D vwCl (mdW h a dI dJ dZ (nI (gL num).length) fNu ne1 fa1 be1 fBr fRe) H1 → va_D A (mdW h a dI dJ dZ (nI (gL num).length) fNu ne1 fa1 be1 fBr fRe) → va_S A H0 H1 locs1 → W p l e R s m args below meth c H1 locs1 0 0 Q (F0 m (pc + 3) ls rest)) : W p l e R s m args below meth c H locs 0 0 Q (F0 m pc ls (.ref h :: rest)) := km_v hC (t_m_survey l D h a dI dJ dZ vGa fNu fNe fFa fBe fBr fRe num hnu h7 H.size) (cwV 0 hC.2.2.2.2 (lw_V q247 q249 qs14 q25 q250) rfl rfl rfl (by decide +kernel) hR) rfl rfl rfl hl rfl hW ⟨Nat.zero_le _, Nat.zero_le _⟩ hP hK hD hS hA hdg (fun u H1 locs1 a1 a2 a3 a4 => kk u.1 u.2.1 u.2.2 H1 locs1 a1 a2 a3 a4)
abbrev rm_m_summed : Room := { frames := 0, cells := 0, slots := 0, locals := 0 }
set_option maxHeartbeats 4000000 in
set_option maxRecDepth 100000 in
/-- summed -/
theorem t_m_summed (l : Launch) (D : va_G) (h : Nat) (a : Nat → Nat) (dI dJ dZ : ClassId) (fNu : Nat → Int32) (fNe : Nat → Int32) (fFa : Nat → Int32) (fBe : Nat → Int64) (fBr : Nat → Int32) (fRe : Nat → Int32) (num br : Nat → Nat) (hM : mdI num fNu fNe fFa fBe) (hbr : brI fBr br) : Met l yX1_summed (ws_ yX1_summed cX1_summed 4 (some .boolean)) rm_m_summed (rP D (kM dI dJ dZ) (mdW h a dI dJ dZ (nI (gL num).length) fNu fNe fFa fBe fBr fRe) [.ref h]) (QcRead (bo (mSum num br))) 0 0 (fun _ => False) := by
  refine en_rz (by decide) (Nat.le_of_ble_eq_true rfl) ?_
  intro p e s m below meth c ls Q hC hP hK hl hret
  have hC : CallFix p m c cX1_summed 4 s _ lw_all RX1 := hC
  have hx := hC.1
  have hb := hC.2.1
  have hl : lv_has ls 4 [(0, .ref h)] := hl
  obtain ⟨hnu, h7, hd⟩ := id hM
  have h14 := gL_len h7
  have lp : ∀ (n : Nat) (c0 : Nat) (ls : Array Slot), (c0 ≤ 36) → (∀ j, j < c0 → (if 0 < num j then mSm num br j (gL num).length else 0) = num j) → 36 < c0 + n → lv_has ls 4 [(0, .ref h), (1, .int (nI c0))] → W p l e rm_m_summed s m ([.ref h] : List Value).toArray below meth c s.heap [] 0 0 Q (F0 m 2 ls []) := by
    intro n
    induction n with
    | zero =>
      intro c0 ls hc hall hfu
      exact absurd hfu (by omega)
    | succ n ih =>
      intro c0 ls hc hall hfu hl
      refine lv_iload_n hx hb dX1_summed_2 rfl (lv_at hl 1 rfl) ?_
      refine lv_bipush (v := nI 36) hx hb dX1_summed_3 (by decide) ?_
      refine nb_ge (tgt := 82) hx hb dX1_summed_5 (by decide) (by omega) (by omega) (fun c1 => ?_) (fun c1 => ?_)
      · refine lv_iconst (v := nI 1) hx hb dX1_summed_82 (by decide) ?_
        exact hret 83 _ _ dX1_summed_83 (by rw [mSum_t (fun c hc => hall c (by omega))]; rfl)
      · have hn8 := (hnu c0 c1).2
        have hnc := (hnu c0 c1).1
        have ih1 := ih
        have tail : ∀ (sm g : Nat) (ls : Array Slot), (sm < 2 ^ 31) → ((if 0 < num c0 then mSm num br c0 (gL num).length else 0) = sm) → lv_has ls 4 [(0, .ref h), (1, .int (nI c0)), (2, .int (nI sm)), (3, .int (nI g))] → W p l e rm_m_summed s m ([.ref h] : List Value).toArray below meth c s.heap [] 0 0 Q (F0 m 64 ls []) := by
          intro sm g ls hsl hsm hl
          refine lv_iload_n hx hb dX1_summed_64 rfl (lv_at hl 2 rfl) ?_
          refine lv_aload_n hx hb dX1_summed_65 rfl (lv_at hl 0 rfl) ?_
          refine g1_number hC hK hP dX1_summed_66 ?_
          refine lv_iload_n hx hb dX1_summed_69 rfl (lv_at hl 1 rfl) ?_
          refine l1_number hC hK hP (by omega) dX1_summed_70 ?_
          refine ct_i (y := nI (num c0)) (hnc) ?_
          refine nb_eq (tgt := 76) hx hb dX1_summed_71 (by decide) (by omega) (by omega) (fun c2 => ?_) (fun c2 => ?_)
          · refine lv_iinc (v := nI (c0 + 1)) (lv' := [(1, .int (nI (c0 + 1))), (0, .ref h), (2, .int (nI sm)), (3, .int (nI g))]) hx hb dX1_summed_76 hl (k := 1) rfl (nI_1 _) (by decide) rfl (fun ls hl => ?_)
            refine lv_goto (tgt := 2) hx hb dX1_summed_79 (by decide) ?_
            exact ih1 (c0 + 1) _ (by omega) (fun j hj => by rcases Nat.lt_or_ge j c0 with q | q; exact hall j q; rw [show j = c0 by omega]; exact hsm.trans c2) (by omega) (lv_sub hl [1, 0] rfl)
          · refine lv_iconst (v := nI 0) hx hb dX1_summed_74 (by decide) ?_
            exact hret 75 _ _ dX1_summed_75 (by rw [mSum_f c1 (fun q => c2 (hsm.symm.trans q))]; rfl)
        have lp2 : ∀ (n : Nat) (g : Nat) (ls : Array Slot), (g ≤ (gL num).length) → (num c0 = 0 → g = 0) → (gL num).length < g + n → lv_has ls 4 [(0, .ref h), (1, .int (nI c0)), (2, .int (nI (mSm num br c0 g))), (3, .int (nI g))] → W p l e rm_m_summed s m ([.ref h] : List Value).toArray below meth c s.heap [] 0 0 Q (F0 m 12 ls []) := by
          intro n
          induction n with
          | zero =>
            intro g ls hg hz hfu
            exact absurd hfu (by omega)
          | succ n ih =>
            intro g ls hg hz hfu hl
            have hml := mSm_le (num := num) (c := c0) g (fun j hj => (hbr j (by omega)).2)
            refine lv_iload_n hx hb dX1_summed_12 rfl (lv_at hl 3 rfl) ?_
            refine lv_aload_n hx hb dX1_summed_13 rfl (lv_at hl 0 rfl) ?_
            refine g1_gaps hC hK hP dX1_summed_14 ?_
            refine nb_ge (tgt := 64) hx hb dX1_summed_17 (by decide) (by omega) (by omega) (fun c3 => ?_) (fun c3 => ?_)
            · have eg : g = (gL num).length := by omega
              exact tail _ _ _ (by omega) (by rcases Nat.eq_zero_or_pos (num c0) with q | q; rw [if_neg (by omega), hz q]; rfl; rw [if_pos q, eg]) (lv_sub hl [0, 1, 2, 3] rfl)
            · refine lv_aload_n hx hb dX1_summed_20 rfl (lv_at hl 0 rfl) ?_
              refine g1_number hC hK hP dX1_summed_21 ?_
              refine lv_iload_n hx hb dX1_summed_24 rfl (lv_at hl 1 rfl) ?_
              refine l1_number hC hK hP (by omega) dX1_summed_25 ?_
              refine ct_i (y := nI (num c0)) (hnc) ?_
              refine nz_le (tgt := 64) hx hb dX1_summed_26 (by decide) (by omega) (fun c4 => ?_) (fun c4 => ?_)
              · have eg : g = 0 := hz c4
                subst eg
                exact tail _ _ _ (by omega) (by rw [if_neg (by omega)]; rfl) (lv_sub hl [0, 1, 2, 3] rfl)
              · obtain ⟨b1, b2, b3⟩ := hd g _ (gL_at c3)
                obtain ⟨a1, a2, a3, a4, a5⟩ := gL_ok c3
                have hbg := hbr g (by omega)
                refine lv_aload_n hx hb dX1_summed_29 rfl (lv_at hl 0 rfl) ?_
                refine g1_near hC hK hP dX1_summed_30 ?_
                refine lv_iload_n hx hb dX1_summed_33 rfl (lv_at hl 3 rfl) ?_
                refine l1_near hC hK hP (by omega) dX1_summed_34 ?_
                refine ct_i (y := nI (nrC num g)) (b1) ?_
                refine lv_iload_n hx hb dX1_summed_35 rfl (lv_at hl 1 rfl) ?_
                refine nb_eq (tgt := 49) hx hb dX1_summed_36 (by decide) (by omega) (by omega) (fun c5 => ?_) (fun c5 => ?_)
                · refine lv_iload_n hx hb dX1_summed_49 rfl (lv_at hl 2 rfl) ?_
                  refine lv_aload_n hx hb dX1_summed_50 rfl (lv_at hl 0 rfl) ?_
                  refine g1_bridges hC hK hP dX1_summed_51 ?_
                  refine lv_iload_n hx hb dX1_summed_54 rfl (lv_at hl 3 rfl) ?_
                  refine l1_bridges hC hK hP (by omega) dX1_summed_55 ?_
                  refine ct_i (y := nI (br g)) (hbg.1) ?_
                  refine nn_add hx hb dX1_summed_56 ?_
                  refine lv_istore_n (lv' := [(2, .int (nI ((mSm num br c0 g) + (br g)))), (0, .ref h), (1, .int (nI c0)), (3, .int (nI g))]) hx hb dX1_summed_57 rfl hl (by decide) rfl (fun ls hl => ?_)
                  refine lv_iinc (v := nI (g + 1)) (lv' := [(3, .int (nI (g + 1))), (2, .int (nI ((mSm num br c0 g) + (br g)))), (0, .ref h), (1, .int (nI c0))]) hx hb dX1_summed_58 hl (k := 3) rfl (nI_1 _) (by decide) rfl (fun ls hl => ?_)
                  refine lv_goto (tgt := 12) hx hb dX1_summed_61 (by decide) ?_
                  exact ih (g + 1) _ (by omega) (fun q => by omega) (by omega) (by rw [mSm_t (Or.inl c5)]; exact (lv_sub hl [2, 3, 1, 0] rfl))
                · refine lv_aload_n hx hb dX1_summed_39 rfl (lv_at hl 0 rfl) ?_
                  refine g1_far hC hK hP dX1_summed_40 ?_
                  refine lv_iload_n hx hb dX1_summed_43 rfl (lv_at hl 3 rfl) ?_
                  refine l1_far hC hK hP (by omega) dX1_summed_44 ?_
                  refine ct_i (y := nI (frC num g)) (b2) ?_
                  refine lv_iload_n hx hb dX1_summed_45 rfl (lv_at hl 1 rfl) ?_
                  refine nb_ne (tgt := 58) hx hb dX1_summed_46 (by decide) (by omega) (by omega) (fun c6 => ?_) (fun c6 => ?_)
                  · refine lv_iinc (v := nI (g + 1)) (lv' := [(3, .int (nI (g + 1))), (0, .ref h), (1, .int (nI c0)), (2, .int (nI (mSm num br c0 g)))]) hx hb dX1_summed_58 hl (k := 3) rfl (nI_1 _) (by decide) rfl (fun ls hl => ?_)
                    refine lv_goto (tgt := 12) hx hb dX1_summed_61 (by decide) ?_
                    exact ih (g + 1) _ (by omega) (fun q => by omega) (by omega) (by rw [mSm_n (fun q => q.elim c5 c6)]; exact (lv_sub hl [1, 2, 3, 0] rfl))
                  · refine lv_iload_n hx hb dX1_summed_49 rfl (lv_at hl 2 rfl) ?_
                    refine lv_aload_n hx hb dX1_summed_50 rfl (lv_at hl 0 rfl) ?_
                    refine g1_bridges hC hK hP dX1_summed_51 ?_
                    refine lv_iload_n hx hb dX1_summed_54 rfl (lv_at hl 3 rfl) ?_
                    refine l1_bridges hC hK hP (by omega) dX1_summed_55 ?_
                    refine ct_i (y := nI (br g)) (hbg.1) ?_
                    refine nn_add hx hb dX1_summed_56 ?_
                    refine lv_istore_n (lv' := [(2, .int (nI ((mSm num br c0 g) + (br g)))), (0, .ref h), (1, .int (nI c0)), (3, .int (nI g))]) hx hb dX1_summed_57 rfl hl (by decide) rfl (fun ls hl => ?_)
                    refine lv_iinc (v := nI (g + 1)) (lv' := [(3, .int (nI (g + 1))), (2, .int (nI ((mSm num br c0 g) + (br g)))), (0, .ref h), (1, .int (nI c0))]) hx hb dX1_summed_58 hl (k := 3) rfl (nI_1 _) (by decide) rfl (fun ls hl => ?_)
                    refine lv_goto (tgt := 12) hx hb dX1_summed_61 (by decide) ?_
                    exact ih (g + 1) _ (by omega) (fun q => by omega) (by omega) (by rw [mSm_t (Or.inr c6)]; exact (lv_sub hl [2, 3, 1, 0] rfl))
        refine lv_iconst (v := nI 0) hx hb dX1_summed_8 (by decide) ?_
        refine lv_istore_n (lv' := [(2, .int (nI 0)), (0, .ref h), (1, .int (nI c0))]) hx hb dX1_summed_9 rfl hl (by decide) rfl (fun ls hl => ?_)
        refine lv_iconst (v := nI 0) hx hb dX1_summed_10 (by decide) ?_
        refine lv_istore_n (lv' := [(3, .int (nI 0)), (2, .int (nI 0)), (0, .ref h), (1, .int (nI c0))]) hx hb dX1_summed_11 rfl hl (by decide) rfl (fun ls hl => ?_)
        exact lp2 ((gL num).length + 1) 0 _ (by omega) (fun _ => rfl) (by omega) (lv_sub hl [2, 3, 1, 0] rfl)
  refine lv_iconst (v := nI 0) hx hb dX1_summed_0 (by decide) ?_
  refine lv_istore_n (lv' := [(1, .int (nI 0)), (0, .ref h)]) hx hb dX1_summed_1 rfl hl (by decide) rfl (fun ls hl => ?_)
  exact lp 37 0 _ (by omega) (fun j hj => by omega) (by omega) (lv_sub hl [1, 0] rfl)
theorem k_m_summed {p : Program} {l : Launch} {e : Env} {R : Room} {s : State} {m : MethodId} {args : Array Value} {below : List Frame} {meth : Method} {c : Code} {H : Heap} {locs : List Loc} {Q : State → Prop} {cc : ByteArray} {pc nL : Nat} {ls : Array Slot} {rest : List Value} {D : va_G} {h : Nat} {a : Nat → Nat} {dI dJ dZ : ClassId} {fNu : Nat → Int32} {fNe : Nat → Int32} {fFa : Nat → Int32} {fBe : Nat → Int64} {fBr : Nat → Int32} {fRe : Nat → Int32} {num br : Nat → Nat} (hC : CallFix p m c cc nL s args lw_all RX1) (hK : va_K D vwCl (kM dI dJ dZ) s) (hP : va_P D vwCl (mdW h a dI dJ dZ (nI (gL num).length) fNu fNe fFa fBe fBr fRe) H) (hR : rm_m_summed.frames + 1 ≤ R.frames ∧ 8 + (4 + 11) + rm_m_summed.locals ≤ R.locals) (hl : ls.size = nL) (hW : (rest.map fun v => v.category).sum ≤ 8) (hM : mdI num fNu fNe fFa fBe) (hbr : brI fBr br) (hdg : decode cc pc = .ok (.invokevirtual 49, 3)) (k : W p l e R s m args below meth c H locs 0 0 Q (F0 m (pc + 3) ls (.int (bo (mSum num br)) :: rest))) : W p l e R s m args below meth c H locs 0 0 Q (F0 m pc ls (.ref h :: rest)) := kr_V hC (t_m_summed l D h a dI dJ dZ fNu fNe fFa fBe fBr fRe num br hM hbr) (cwV 0 hC.2.2.2.2 (lw_V q275 q277 qs19 q25 q278) rfl rfl rfl (by decide +kernel) hR) rfl rfl rfl hl rfl hW ⟨Nat.zero_le _, Nat.zero_le _⟩ hP hK hdg k
abbrev rm_m_apart : Room := { frames := 0, cells := 0, slots := 0, locals := 0 }
set_option maxHeartbeats 4000000 in
set_option maxRecDepth 100000 in
/-- apart -/
theorem t_m_apart (l : Launch) (D : va_G) (h : Nat) (a : Nat → Nat) (dI dJ dZ : ClassId) (fNu : Nat → Int32) (fNe : Nat → Int32) (fFa : Nat → Int32) (fBe : Nat → Int64) (fBr : Nat → Int32) (fRe : Nat → Int32) (num br : Nat → Nat) (hM : mdI num fNu fNe fFa fBe) (hbr : brI fBr br) : Met l yX1_apart (ws_ yX1_apart cX1_apart 3 (some .boolean)) rm_m_apart (rP D (kM dI dJ dZ) (mdW h a dI dJ dZ (nI (gL num).length) fNu fNe fFa fBe fBr fRe) [.ref h]) (QcRead (bo (mApt num br))) 0 0 (fun _ => False) := by
  refine en_rz (by decide) (Nat.le_of_ble_eq_true rfl) ?_
  intro p e s m below meth c ls Q hC hP hK hl hret
  have hC : CallFix p m c cX1_apart 3 s _ lw_all RX1 := hC
  have hx := hC.1
  have hb := hC.2.1
  have hl : lv_has ls 3 [(0, .ref h)] := hl
  obtain ⟨hnu, h7, hd⟩ := id hM
  have h14 := gL_len h7
  have lp : ∀ (n : Nat) (g : Nat) (ls : Array Slot), (g ≤ (gL num).length) → (∀ j, j < g → ∀ i, i < j → mAp1 num br j i = true) → (gL num).length < g + n → lv_has ls 3 [(0, .ref h), (1, .int (nI g))] → W p l e rm_m_apart s m ([.ref h] : List Value).toArray below meth c s.heap [] 0 0 Q (F0 m 2 ls []) := by
    intro n
    induction n with
    | zero =>
      intro g ls hg hall hfu
      exact absurd hfu (by omega)
    | succ n ih =>
      intro g ls hg hall hfu hl
      refine lv_iload_n hx hb dX1_apart_2 rfl (lv_at hl 1 rfl) ?_
      refine lv_aload_n hx hb dX1_apart_3 rfl (lv_at hl 0 rfl) ?_
      refine g1_gaps hC hK hP dX1_apart_4 ?_
      refine nb_ge (tgt := 67) hx hb dX1_apart_7 (by decide) (by omega) (by omega) (fun c1 => ?_) (fun c1 => ?_)
      · refine lv_iconst (v := nI 1) hx hb dX1_apart_67 (by decide) ?_
        exact hret 68 _ _ dX1_apart_68 (by rw [mApt_t (fun g hg => hall g (by omega))]; rfl)
      · have ih1 := ih
        obtain ⟨b1, b2, b3⟩ := hd g _ (gL_at c1)
        have hbg := hbr g (by omega)
        have lp2 : ∀ (n : Nat) (k : Nat) (ls : Array Slot), (k ≤ g) → (∀ j, j < k → mAp1 num br g j = true) → g < k + n → lv_has ls 3 [(0, .ref h), (1, .int (nI g)), (2, .int (nI k))] → W p l e rm_m_apart s m ([.ref h] : List Value).toArray below meth c s.heap [] 0 0 Q (F0 m 12 ls []) := by
          intro n
          induction n with
          | zero =>
            intro k ls hk hin hfu
            exact absurd hfu (by omega)
          | succ n ih =>
            intro k ls hk hin hfu hl
            refine lv_iload_n hx hb dX1_apart_12 rfl (lv_at hl 2 rfl) ?_
            refine lv_iload_n hx hb dX1_apart_13 rfl (lv_at hl 1 rfl) ?_
            refine nb_ge (tgt := 61) hx hb dX1_apart_14 (by decide) (by omega) (by omega) (fun c2 => ?_) (fun c2 => ?_)
            · refine lv_iinc (v := nI (g + 1)) (lv' := [(1, .int (nI (g + 1))), (0, .ref h), (2, .int (nI k))]) hx hb dX1_apart_61 hl (k := 1) rfl (nI_1 _) (by decide) rfl (fun ls hl => ?_)
              refine lv_goto (tgt := 2) hx hb dX1_apart_64 (by decide) ?_
              exact ih1 (g + 1) _ (by omega) (fun j hj => by rcases Nat.lt_or_ge j g with q | q; exact hall j q; rw [show j = g by omega]; exact fun i hi => hin i (by omega)) (by omega) (lv_sub hl [1, 0] rfl)
            · obtain ⟨d1, d2, d3⟩ := hd k _ (gL_at (show k < (gL num).length by omega))
              have hbk := hbr k (by omega)
              refine lv_aload_n hx hb dX1_apart_17 rfl (lv_at hl 0 rfl) ?_
              refine g1_between hC hK hP dX1_apart_18 ?_
              refine lv_iload_n hx hb dX1_apart_21 rfl (lv_at hl 1 rfl) ?_
              refine l1_between hC hK hP (by omega) dX1_apart_22 ?_
              refine ct_l (y := mkC num g) (b3) ?_
              refine lv_aload_n hx hb dX1_apart_23 rfl (lv_at hl 0 rfl) ?_
              refine g1_between hC hK hP dX1_apart_24 ?_
              refine lv_iload_n hx hb dX1_apart_27 rfl (lv_at hl 2 rfl) ?_
              refine l1_between hC hK hP (by omega) dX1_apart_28 ?_
              refine ct_l (y := mkC num k) (d3) ?_
              refine lv_land hx hb dX1_apart_29 ?_
              refine lv_lconst (v := 0) hx hb dX1_apart_30 (by decide) ?_
              refine W.lcmp hx hb dX1_apart_31 ?_
              refine lv_if_eq (tgt := 55) hx hb dX1_apart_32 (by decide) (fun c13 => ?_) (fun c13 => ?_)
              · refine lv_iinc (v := nI (k + 1)) (lv' := [(2, .int (nI (k + 1))), (0, .ref h), (1, .int (nI g))]) hx hb dX1_apart_55 hl (k := 2) rfl (nI_1 _) (by decide) rfl (fun ls hl => ?_)
                refine lv_goto (tgt := 12) hx hb dX1_apart_58 (by decide) ?_
                exact ih (k + 1) _ (by omega) (fun j hj => by rcases Nat.lt_or_ge j k with q | q; exact hin j q; rw [show j = k by omega]; exact by simp [mAp1, (lgc_0 _).mp c13]) (by omega) (lv_sub hl [1, 2, 0] rfl)
              · refine lv_aload_n hx hb dX1_apart_35 rfl (lv_at hl 0 rfl) ?_
                refine g1_bridges hC hK hP dX1_apart_36 ?_
                refine lv_iload_n hx hb dX1_apart_39 rfl (lv_at hl 1 rfl) ?_
                refine l1_bridges hC hK hP (by omega) dX1_apart_40 ?_
                refine ct_i (y := nI (br g)) (hbg.1) ?_
                refine nz_le (tgt := 55) hx hb dX1_apart_41 (by decide) (by omega) (fun c14 => ?_) (fun c14 => ?_)
                · refine lv_iinc (v := nI (k + 1)) (lv' := [(2, .int (nI (k + 1))), (0, .ref h), (1, .int (nI g))]) hx hb dX1_apart_55 hl (k := 2) rfl (nI_1 _) (by decide) rfl (fun ls hl => ?_)
                  refine lv_goto (tgt := 12) hx hb dX1_apart_58 (by decide) ?_
                  exact ih (k + 1) _ (by omega) (fun j hj => by rcases Nat.lt_or_ge j k with q | q; exact hin j q; rw [show j = k by omega]; exact by simp [mAp1, c14]) (by omega) (lv_sub hl [1, 2, 0] rfl)
                · refine lv_aload_n hx hb dX1_apart_44 rfl (lv_at hl 0 rfl) ?_
                  refine g1_bridges hC hK hP dX1_apart_45 ?_
                  refine lv_iload_n hx hb dX1_apart_48 rfl (lv_at hl 2 rfl) ?_
                  refine l1_bridges hC hK hP (by omega) dX1_apart_49 ?_
                  refine ct_i (y := nI (br k)) (hbk.1) ?_
                  refine nz_le (tgt := 55) hx hb dX1_apart_50 (by decide) (by omega) (fun c15 => ?_) (fun c15 => ?_)
                  · refine lv_iinc (v := nI (k + 1)) (lv' := [(2, .int (nI (k + 1))), (0, .ref h), (1, .int (nI g))]) hx hb dX1_apart_55 hl (k := 2) rfl (nI_1 _) (by decide) rfl (fun ls hl => ?_)
                    refine lv_goto (tgt := 12) hx hb dX1_apart_58 (by decide) ?_
                    exact ih (k + 1) _ (by omega) (fun j hj => by rcases Nat.lt_or_ge j k with q | q; exact hin j q; rw [show j = k by omega]; exact by simp [mAp1, c15]) (by omega) (lv_sub hl [1, 2, 0] rfl)
                  · have hq : mAp1 num br g k = false := by rw [mAp1, decide_eq_false (fun q => c13 ((lgc_0 _).mpr q)), decide_eq_false (by omega), decide_eq_false (by omega)]; rfl
                    refine lv_iconst (v := nI 0) hx hb dX1_apart_53 (by decide) ?_
                    exact hret 54 _ _ dX1_apart_54 (by rw [mApt_f c1 c2 hq]; rfl)
        refine lv_iconst (v := nI 0) hx hb dX1_apart_10 (by decide) ?_
        refine lv_istore_n (lv' := [(2, .int (nI 0)), (0, .ref h), (1, .int (nI g))]) hx hb dX1_apart_11 rfl hl (by decide) rfl (fun ls hl => ?_)
        exact lp2 (g + 1) 0 _ (by omega) (fun j hj => by omega) (by omega) (lv_sub hl [1, 2, 0] rfl)
  refine lv_iconst (v := nI 0) hx hb dX1_apart_0 (by decide) ?_
  refine lv_istore_n (lv' := [(1, .int (nI 0)), (0, .ref h)]) hx hb dX1_apart_1 rfl hl (by decide) rfl (fun ls hl => ?_)
  exact lp ((gL num).length + 1) 0 _ (by omega) (fun j hj => by omega) (by omega) (lv_sub hl [1, 0] rfl)
theorem k_m_apart {p : Program} {l : Launch} {e : Env} {R : Room} {s : State} {m : MethodId} {args : Array Value} {below : List Frame} {meth : Method} {c : Code} {H : Heap} {locs : List Loc} {Q : State → Prop} {cc : ByteArray} {pc nL : Nat} {ls : Array Slot} {rest : List Value} {D : va_G} {h : Nat} {a : Nat → Nat} {dI dJ dZ : ClassId} {fNu : Nat → Int32} {fNe : Nat → Int32} {fFa : Nat → Int32} {fBe : Nat → Int64} {fBr : Nat → Int32} {fRe : Nat → Int32} {num br : Nat → Nat} (hC : CallFix p m c cc nL s args lw_all RX1) (hK : va_K D vwCl (kM dI dJ dZ) s) (hP : va_P D vwCl (mdW h a dI dJ dZ (nI (gL num).length) fNu fNe fFa fBe fBr fRe) H) (hR : rm_m_apart.frames + 1 ≤ R.frames ∧ 8 + (3 + 11) + rm_m_apart.locals ≤ R.locals) (hl : ls.size = nL) (hW : (rest.map fun v => v.category).sum ≤ 8) (hM : mdI num fNu fNe fFa fBe) (hbr : brI fBr br) (hdg : decode cc pc = .ok (.invokevirtual 53, 3)) (k : W p l e R s m args below meth c H locs 0 0 Q (F0 m (pc + 3) ls (.int (bo (mApt num br)) :: rest))) : W p l e R s m args below meth c H locs 0 0 Q (F0 m pc ls (.ref h :: rest)) := kr_V hC (t_m_apart l D h a dI dJ dZ fNu fNe fFa fBe fBr fRe num br hM hbr) (cwV 0 hC.2.2.2.2 (lw_V q279 q281 qs20 q25 q282) rfl rfl rfl (by decide +kernel) hR) rfl rfl rfl hl rfl hW ⟨Nat.zero_le _, Nat.zero_le _⟩ hP hK hdg k
end
section
/-! the reference's enumeration: nxF runs through asg -/
def zF : Nat → Nat := fun _ => 0
def cnF (b : Nat) (t : Nat → Nat) : Nat → Nat
  | 0 => b
  | i + 1 => t i
theorem cnF_eta (f : Nat → Nat) : cnF (f 0) (fun i => f (i + 1)) = f := by funext i; cases i <;> rfl
theorem cnF_z : cnF 0 zF = zF := by funext i; cases i <;> rfl
theorem cnF_set (b : Nat) (t : Nat → Nat) (n v : Nat) : setN (cnF b t) (n + 1) v = cnF b (setN t n v) := by
  funext i
  cases i with
  | zero => rfl
  | succ i =>
    show (if i + 1 = n + 1 then v else t i) = (if i = n then v else t i)
    by_cases e : i = n
    · simp [e]
    · simp [e]
theorem cnF_set0 (b : Nat) (t : Nat → Nat) (v : Nat) : setN (cnF b t) 0 v = cnF v t := by
  funext i
  cases i <;> rfl
theorem fnL_cons (b : Nat) (a : List Nat) : fnL (b :: a) = cnF b (fnL a) := by funext i; cases i <;> rfl
theorem fnL_nil : fnL [] = zF := by funext i; rfl
theorem nxF_succ (n b : Nat) (t : Nat → Nat) : nxF (n + 1) (cnF b t) = if (nxF n t).1 then (true, cnF b (nxF n t).2) else if b < 2 then (true, cnF (b + 1) (nxF n t).2) else (false, cnF 0 (nxF n t).2) := by
  induction n generalizing t with
  | zero =>
    show (if b < 2 then (true, setN (cnF b t) 0 (b + 1)) else (false, setN (cnF b t) 0 0)) = _
    rw [cnF_set0, cnF_set0]
    simp [nxF]
  | succ n ih =>
    show (if t n < 2 then (true, setN (cnF b t) (n + 1) (t n + 1)) else nxF (n + 1) (setN (cnF b t) (n + 1) 0)) = _
    rw [cnF_set, cnF_set, ih]
    by_cases h : t n < 2
    · simp [nxF, h]
    · simp [nxF, h]
/-- a chain of nxF that ends -/
def En (G : Nat) : List (Nat → Nat) → Prop
  | [] => False
  | [x] => nxF G x = (false, zF)
  | x :: y :: L => nxF G x = (true, y) ∧ En G (y :: L)
theorem En_last {n : Nat} : ∀ L : List (Nat → Nat), En n L → En (n + 1) (L.map (cnF 2)) := by
  intro L
  induction L with
  | nil => intro h; exact h
  | cons x L ih =>
    intro h
    cases L with
    | nil =>
      have h1 : nxF n x = (false, zF) := h
      show nxF (n + 1) (cnF 2 x) = (false, zF)
      rw [nxF_succ, h1]
      simp [cnF_z]
    | cons y L =>
      obtain ⟨h1, h2⟩ := h
      refine ⟨?_, ih h2⟩
      rw [nxF_succ, h1]; simp
theorem En_go {n b : Nat} (hb : b < 2) {M : List (Nat → Nat)} (hM : En (n + 1) (cnF (b + 1) zF :: M)) : ∀ L : List (Nat → Nat), En n L → En (n + 1) (L.map (cnF b) ++ cnF (b + 1) zF :: M) := by
  intro L
  induction L with
  | nil => intro h; exact absurd h id
  | cons x L ih =>
    intro h
    cases L with
    | nil =>
      have h1 : nxF n x = (false, zF) := h
      refine ⟨?_, hM⟩
      rw [nxF_succ, h1]; simp [hb]
    | cons y L =>
      obtain ⟨h1, h2⟩ := h
      refine ⟨?_, ih h2⟩
      rw [nxF_succ, h1]; simp
theorem asg_map (n : Nat) : (asg (n + 1)).map fnL = ((asg n).map fnL).map (cnF 0) ++ (((asg n).map fnL).map (cnF 1) ++ ((asg n).map fnL).map (cnF 2)) := by
  have e : ∀ b : Nat, (asg n).map (fnL ∘ (b :: ·)) = (asg n).map (cnF b ∘ fnL) := by
    intro b
    apply List.map_congr_left
    intro a _
    exact fnL_cons b a
  simp only [asg, List.map_append, List.map_map, e]
theorem asg_En (n : Nat) : (∃ M, (asg n).map fnL = zF :: M) ∧ En n ((asg n).map fnL) := by
  induction n with
  | zero =>
    refine ⟨⟨[], by simp [asg, fnL_nil]⟩, ?_⟩
    show En 0 [fnL []]
    rw [fnL_nil]; rfl
  | succ n ih =>
    obtain ⟨⟨M, hM⟩, hE⟩ := ih
    rw [asg_map]
    have h2 : En (n + 1) (((asg n).map fnL).map (cnF 2)) := En_last _ hE
    have h1 : En (n + 1) (((asg n).map fnL).map (cnF 1) ++ ((asg n).map fnL).map (cnF 2)) := by
      have e : ((asg n).map fnL).map (cnF 2) = cnF (1 + 1) zF :: M.map (cnF 2) := by rw [hM]; rfl
      rw [e] at h2 ⊢
      exact En_go (by omega) h2 _ hE
    refine ⟨⟨M.map (cnF 0) ++ (((asg n).map fnL).map (cnF 1) ++ ((asg n).map fnL).map (cnF 2)), ?_⟩, ?_⟩
    · rw [hM]; simp [cnF_z]
    · have e : ((asg n).map fnL).map (cnF 1) ++ ((asg n).map fnL).map (cnF 2) = cnF (0 + 1) zF :: (M.map (cnF 1) ++ ((asg n).map fnL).map (cnF 2)) := by rw [hM]; rfl
      rw [e] at h1 ⊢
      exact En_go (by omega) h1 _ hE
theorem ctF_En (G : Nat) (P : (Nat → Nat) → Bool) : ∀ (M : List (Nat → Nat)) (x : Nat → Nat), En G (x :: M) → ∀ k acc, M.length < k → ctF G P k x acc = acc + (x :: M).countP P := by
  intro M
  induction M with
  | nil =>
    intro x h k acc hk
    have h1 : nxF G x = (false, zF) := h
    cases k with
    | zero => exact absurd hk (by omega)
    | succ k =>
      rw [ctF, h1]
      simp [List.countP_cons]
  | cons y M ih =>
    intro x h k acc hk
    obtain ⟨h1, h2⟩ := h
    cases k with
    | zero => exact absurd hk (by omega)
    | succ k =>
      rw [ctF, h1, if_pos rfl, ih y h2 k _ (by simp at hk; omega), List.countP_cons (a := x)]
      omega
theorem ct_eq {G : Nat} (hG : G ≤ 8) (P : (Nat → Nat) → Bool) : ctF G P 6561 zF 0 = (asg G).countP (fun a => P (fnL a)) := by
  obtain ⟨⟨M, hM⟩, hE⟩ := asg_En G
  have hl : (zF :: M).length = 3 ^ G := by rw [← hM, List.length_map, asg_len]
  have h8 : 3 ^ G ≤ 3 ^ 8 := Nat.pow_le_pow_right (by omega) hG
  rw [hM] at hE
  have h9 : M.length < 6561 := by simp at hl; omega
  rw [ctF_En G P M zF hE 6561 0 h9, ← hM, List.countP_map, Nat.zero_add]
  rfl
theorem lsF_En (num : Nat → Nat) (g : Nat) : ∀ (M : List (Nat → Nat)) (x : Nat → Nat), En (gL num).length (x :: M) → ∀ k, M.length < k → lsF num g k x = match (x :: M).find? (mSol num) with
    | none => -1
    | some f => nI (f g) := by
  intro M
  induction M with
  | nil =>
    intro x h k hk
    have h1 : nxF (gL num).length x = (false, zF) := h
    cases k with
    | zero => exact absurd hk (by omega)
    | succ k =>
      rw [lsF, h1]
      cases hq : mSol num x <;> simp [hq]
  | cons y M ih =>
    intro x h k hk
    obtain ⟨h1, h2⟩ := h
    cases k with
    | zero => exact absurd hk (by omega)
    | succ k =>
      rw [lsF, h1]
      cases hq : mSol num x with
      | true => simp [hq]
      | false =>
        have := ih y h2 k (by simp at hk; omega)
        simp only [List.find?_cons (a := x), hq, Bool.false_eq_true, if_false, if_true]
        exact this
theorem ls_eq {num : Nat → Nat} (hG : (gL num).length ≤ 8) (g : Nat) : lsF num g 6561 zF = lst num g := by
  obtain ⟨⟨M, hM⟩, hE⟩ := asg_En (gL num).length
  have hl : (zF :: M).length = 3 ^ (gL num).length := by rw [← hM, List.length_map, asg_len]
  have h8 : 3 ^ (gL num).length ≤ 3 ^ 8 := Nat.pow_le_pow_right (by omega) hG
  rw [hM] at hE
  have h9 : M.length < 6561 := by simp at hl; omega
  rw [lsF_En num g M zF hE 6561 h9, ← hM, List.find?_map, lst, sols, List.head?_filter]
  have e : ((mSol num) ∘ fnL) = fun a => mSol num (fnL a) := rfl
  rw [e]
  cases (asg (gL num).length).find? (fun a => mSol num (fnL a)) <;> rfl
theorem asg_le (n : Nat) : ∀ a ∈ asg n, ∀ g, fnL a g ≤ 2 := by
  induction n with
  | zero => intro a ha g; simp [asg] at ha; subst ha; exact Nat.zero_le _
  | succ n ih =>
    intro a ha g
    simp only [asg, List.mem_append, List.mem_map] at ha
    rcases ha with ⟨t, ht, rfl⟩ | ⟨t, ht, rfl⟩ | ⟨t, ht, rfl⟩ <;> (rw [fnL_cons]; cases g with
      | zero => show _ ≤ 2; simp [cnF]
      | succ g => exact ih t ht g)
theorem ct_all {num : Nat → Nat} (hG : (gL num).length ≤ 8) (y : Int32) : ctF (gL num).length (selP num (-1) y) 6561 zF 0 = (sols num).length := by
  rw [ct_eq hG, sols, ← List.countP_eq_length_filter]
  apply List.countP_congr
  intro a _
  simp [selP]
theorem ct_w {num : Nat → Nat} (hG : (gL num).length ≤ 8) {g b : Nat} (hg : g < 2 ^ 31) (hb : b < 2 ^ 31) : ctF (gL num).length (selP num (nI g) (nI b)) 6561 zF 0 = cnW num g b := by
  rw [ct_eq hG, cnW, sols, List.countP_filter]
  apply List.countP_congr
  intro a ha
  have h1 := asg_le _ a ha g
  have h2 : nI (fnL a g) = nI b ↔ fnL a g = b := nI_eq (by omega) hb
  have h3 : ¬ nI g < 0 := nI_pos hg
  simp only [selP, nI_clamp hg, h2, h3, decide_false, Bool.false_or]
  simp
theorem cnW_sum {num : Nat → Nat} (g : Nat) : cnW num g 0 + (cnW num g 1 + cnW num g 2) = (sols num).length := by
  have h : ∀ L : List (List Nat), (∀ a ∈ L, fnL a g ≤ 2) → L.countP (fun a => fnL a g == 0) + (L.countP (fun a => fnL a g == 1) + L.countP (fun a => fnL a g == 2)) = L.length := by
    intro L
    induction L with
    | nil => intro _; rfl
    | cons a L ih =>
      intro h
      have h1 := ih (fun x hx => h x (List.mem_cons_of_mem _ hx))
      have h2 := h a List.mem_cons_self
      simp only [List.countP_cons, List.length_cons]
      rcases (show fnL a g = 0 ∨ fnL a g = 1 ∨ fnL a g = 2 by omega) with e | e | e <;> simp [e] <;> omega
  exact h (sols num) (fun a ha => asg_le _ a (List.mem_filter.mp ha).1 g)
theorem alw_m {num : Nat → Nat} (g : Nat) : alw num g = if 0 < cnW num g 0 ∧ cnW num g 1 + cnW num g 2 = 0 then nI 0 else if 0 < cnW num g 1 ∧ cnW num g 0 + cnW num g 2 = 0 then nI 1 else if 0 < cnW num g 2 ∧ cnW num g 0 + cnW num g 1 = 0 then nI 2 else -1 := by
  have h := cnW_sum (num := num) g
  unfold alw
  have e0 : (0 < (sols num).length ∧ cnW num g 0 = (sols num).length) ↔ (0 < cnW num g 0 ∧ cnW num g 1 + cnW num g 2 = 0) := by omega
  have e1 : (0 < (sols num).length ∧ cnW num g 1 = (sols num).length) ↔ (0 < cnW num g 1 ∧ cnW num g 0 + cnW num g 2 = 0) := by omega
  have e2 : (0 < (sols num).length ∧ cnW num g 2 = (sols num).length) ↔ (0 < cnW num g 2 ∧ cnW num g 0 + cnW num g 1 = 0) := by omega
  simp only [e0, e1, e2]
theorem re_s {f : Nat → Int32} {R : Nat → Bool} {c : Nat} (h : ∀ j, j < c → f j = bo (R j)) {v : Bool} (hv : R c = v) : ∀ j, j < c + 1 → upd f c (bo v) j = bo (R j) := by
  intro j hj
  by_cases e : j = c
  · subst e; rw [pk_us, hv]
  · rw [pk_un e]; exact h j (by omega)
theorem re_set {f : Nat → Int32} {re : Nat → Bool} (h : ∀ j, j < 36 → f j = bo (re j)) (c : Nat) : ∀ j, j < 36 → upd f c (bo true) j = bo (setB re c j) := by
  intro j hj
  unfold setB
  by_cases e : j = c
  · subst e; rw [pk_us, if_pos rfl]
  · rw [pk_un e, if_neg e]; exact h j hj
theorem mj1_n {num f : Nat → Nat} {g : Nat} {re : Nat → Bool} (h : ¬ (0 < f g ∧ (re (nrC num g) || re (frC num g)) = true)) : mj1 num f g re = re := if_neg h
theorem mj1_t {num f : Nat → Nat} {g : Nat} {re : Nat → Bool} (h : 0 < f g ∧ (re (nrC num g) || re (frC num g)) = true) : mj1 num f g re = setB (setB re (nrC num g)) (frC num g) := if_pos h
theorem cl_nI {x : Int32} (h : ¬ x < 0) : x = nI x.toNatClampNeg := by
  obtain ⟨j, hj, e⟩ := nI_of h
  subst e
  rw [nI_clamp hj]
end
section
/-! BridgeBoardModel: joined, solves, begin, next, count -/
abbrev rm_m_joined : Room := { frames := 0, cells := 0, slots := 0, locals := 0 }
set_option maxHeartbeats 4000000 in
set_option maxRecDepth 100000 in
/-- joined -/
theorem t_m_joined (l : Launch) (D : va_G) (h : Nat) (a : Nat → Nat) (dI dJ dZ : ClassId) (fNu : Nat → Int32) (fNe : Nat → Int32) (fFa : Nat → Int32) (fBe : Nat → Int64) (fBr : Nat → Int32) (fRe : Nat → Int32) (num br : Nat → Nat) (hM : mdI num fNu fNe fFa fBe) (hbr : brI fBr br) (sz : Nat) : Met l yX1_joined (ws_ yX1_joined cX1_joined 4 (some .boolean)) rm_m_joined (cP D (kM dI dJ dZ) (mdW h a dI dJ dZ (nI (gL num).length) fNu fNe fFa fBe fBr fRe) sz [.ref h]) (cQi D (kM dI dJ dZ) (mdW h a dI dJ dZ (nI (gL num).length) fNu fNe fFa fBe fBr fRe) sz (fun (r : Int32) (u : (Nat → Int32)) => r = bo (mJoi num br)) (fun (u : (Nat → Int32)) => mdW h a dI dJ dZ (nI (gL num).length) fNu fNe fFa fBe fBr u)) 0 0 (va_A (mdW h a dI dJ dZ (nI (gL num).length) fNu fNe fFa fBe fBr fRe) sz) := by
  refine en_z (by decide) (Nat.le_of_ble_eq_true rfl) ?_
  intro p e s m below meth c ls Q A hC hP hK hD hA hS hl hret
  have hC : CallFix p m c cX1_joined 4 s _ lw_all RX1 := hC
  have hx := hC.1
  have hb := hC.2.1
  have hl : lv_has ls 4 [(0, .ref h)] := hl
  obtain ⟨hnu, h7, hd⟩ := id hM
  have h14 := gL_len h7
  have lp3 : ∀ (n : Nat) (c0 : Nat) (f : Nat → Int32) (ls : Array Slot), (c0 ≤ 36) → (∀ j, j < 36 → f j = bo (mjs num br 7 (mR0 num) j)) → (∀ j, j < c0 → 0 < num j → mjs num br 7 (mR0 num) j = true) → 36 < c0 + n → ∀ (H : Heap) (locs : List Loc), va_P D vwCl (mdW h a dI dJ dZ (nI (gL num).length) fNu fNe fFa fBe fBr f) H → va_D A (mdW h a dI dJ dZ (nI (gL num).length) fNu fNe fFa fBe fBr f) → va_S A s.heap H locs → lv_has ls 4 [(0, .ref h), (2, .int (nI c0))] → W p l e rm_m_joined s m ([.ref h] : List Value).toArray below meth c H locs 0 0 Q (F0 m 144 ls []) := by
    intro n
    induction n with
    | zero =>
      intro c0 f ls hc hre hall hfu
      exact absurd hfu (by omega)
    | succ n ih =>
      intro c0 f ls hc hre hall hfu H locs hP hD hS hl
      refine lv_iload_n hx hb dX1_joined_144 rfl (lv_at hl 1 rfl) ?_
      refine lv_bipush (v := nI 36) hx hb dX1_joined_145 (by decide) ?_
      refine nb_ge (tgt := 176) hx hb dX1_joined_147 (by decide) (by omega) (by omega) (fun c1 => ?_) (fun c1 => ?_)
      · refine lv_iconst (v := nI 1) hx hb dX1_joined_176 (by decide) ?_
        exact hret _ _ 177 _ true f dX1_joined_177 (by rw [mJoi_t (fun c hc q => hall c (by omega) q)]) hP hD hS
      · have hn8 := (hnu c0 c1).2
        refine lv_aload_n hx hb dX1_joined_150 rfl (lv_at hl 0 rfl) ?_
        refine g1_number hC hK hP dX1_joined_151 ?_
        refine lv_iload_n hx hb dX1_joined_154 rfl (lv_at hl 1 rfl) ?_
        refine l1_number hC hK hP (by omega) dX1_joined_155 ?_
        refine ct_i (y := nI (num c0)) ((hnu c0 c1).1) ?_
        refine nz_le (tgt := 170) hx hb dX1_joined_156 (by decide) (by omega) (fun c2 => ?_) (fun c2 => ?_)
        · refine lv_iinc (v := nI (c0 + 1)) (lv' := [(2, .int (nI (c0 + 1))), (0, .ref h)]) hx hb dX1_joined_170 hl (k := 1) rfl (nI_1 _) (by decide) rfl (fun ls hl => ?_)
          refine lv_goto (tgt := 144) hx hb dX1_joined_173 (by decide) ?_
          exact ih (c0 + 1) f _ (by omega) hre (fun j hj q => by rcases Nat.lt_or_ge j c0 with z | z; exact hall j z q; have ej : j = c0 := (by omega); subst ej; exact absurd q (by omega)) (by omega) _ _ hP hD hS (lv_sub hl [1, 0] rfl)
        · refine lv_aload_n hx hb dX1_joined_159 rfl (lv_at hl 0 rfl) ?_
          refine g1_reached hC hK hP dX1_joined_160 ?_
          refine lv_iload_n hx hb dX1_joined_163 rfl (lv_at hl 1 rfl) ?_
          refine l1_reached hC hK hP (by omega) dX1_joined_164 ?_
          refine ct_i (y := bo (mjs num br 7 (mR0 num) c0)) (hre c0 c1) ?_
          refine bz_ne (tgt := 170) hx hb dX1_joined_165 (by decide) (fun c3 => ?_) (fun c3 => ?_)
          · refine lv_iinc (v := nI (c0 + 1)) (lv' := [(2, .int (nI (c0 + 1))), (0, .ref h)]) hx hb dX1_joined_170 hl (k := 1) rfl (nI_1 _) (by decide) rfl (fun ls hl => ?_)
            refine lv_goto (tgt := 144) hx hb dX1_joined_173 (by decide) ?_
            exact ih (c0 + 1) f _ (by omega) hre (fun j hj q => by rcases Nat.lt_or_ge j c0 with z | z; exact hall j z q; have ej : j = c0 := (by omega); subst ej; exact c3) (by omega) _ _ hP hD hS (lv_sub hl [1, 0] rfl)
          · refine lv_iconst (v := nI 0) hx hb dX1_joined_168 (by decide) ?_
            exact hret _ _ 169 _ false f dX1_joined_169 (by rw [mJoi_f c1 c2 c3]) hP hD hS
  have lp2 : ∀ (n : Nat) (k : Nat) (f : Nat → Int32) (re : Nat → Bool) (ls : Array Slot), (k ≤ 7) → (∀ j, j < 36 → f j = bo (re j)) → (mjs num br 7 (mR0 num) = mjs num br (7 - k) re) → 7 < k + n → ∀ (H : Heap) (locs : List Loc), va_P D vwCl (mdW h a dI dJ dZ (nI (gL num).length) fNu fNe fFa fBe fBr f) H → va_D A (mdW h a dI dJ dZ (nI (gL num).length) fNu fNe fFa fBe fBr f) → va_S A s.heap H locs → lv_has ls 4 [(0, .ref h), (2, .int (nI k))] → W p l e rm_m_joined s m ([.ref h] : List Value).toArray below meth c H locs 0 0 Q (F0 m 53 ls []) := by
    intro n
    induction n with
    | zero =>
      intro k f re ls hk hre he hfu
      exact absurd hfu (by omega)
    | succ n ih =>
      intro k f re ls hk hre he hfu H locs hP hD hS hl
      refine lv_iload_n hx hb dX1_joined_53 rfl (lv_at hl 1 rfl) ?_
      refine lv_bipush (v := nI 7) hx hb dX1_joined_54 (by decide) ?_
      refine nb_ge (tgt := 142) hx hb dX1_joined_56 (by decide) (by omega) (by omega) (fun c4 => ?_) (fun c4 => ?_)
      · rw [show 7 - k = 0 by omega, mjs] at he
        rw [← he] at hre
        refine lv_iconst (v := nI 0) hx hb dX1_joined_142 (by decide) ?_
        refine lv_istore_n (lv' := [(2, .int (nI 0)), (0, .ref h)]) hx hb dX1_joined_143 rfl hl (by decide) rfl (fun ls hl => ?_)
        exact lp3 37 0 f _ (by omega) hre (fun j hj => by omega) (by omega) _ _ hP hD hS (lv_sub hl [1, 0] rfl)
      · rw [show 7 - k = (7 - (k + 1)) + 1 by omega, mjs] at he
        have ih1 := ih
        have hre0 := hre
        have lp4 : ∀ (n : Nat) (g : Nat) (f1 : Nat → Int32) (re1 : Nat → Bool) (ls : Array Slot), (g ≤ (gL num).length) → (∀ j, j < 36 → f1 j = bo (re1 j)) → (mjs num br 7 (mR0 num) = mjs num br (7 - (k + 1)) (mjL num br ((gL num).length - g) g re1)) → (gL num).length < g + n → ∀ (H : Heap) (locs : List Loc), va_P D vwCl (mdW h a dI dJ dZ (nI (gL num).length) fNu fNe fFa fBe fBr f1) H → va_D A (mdW h a dI dJ dZ (nI (gL num).length) fNu fNe fFa fBe fBr f1) → va_S A s.heap H locs → lv_has ls 4 [(0, .ref h), (2, .int (nI k)), (3, .int (nI g))] → W p l e rm_m_joined s m ([.ref h] : List Value).toArray below meth c H locs 0 0 Q (F0 m 61 ls []) := by
          intro n
          induction n with
          | zero =>
            intro g f1 re1 ls hg hr1 hf hfu
            exact absurd hfu (by omega)
          | succ n ih =>
            intro g f1 re1 ls hg hr1 hf hfu H locs hP hD hS hl
            refine lv_iload_n hx hb dX1_joined_61 rfl (lv_at hl 2 rfl) ?_
            refine lv_aload_n hx hb dX1_joined_62 rfl (lv_at hl 0 rfl) ?_
            refine g1_gaps hC hK hP dX1_joined_63 ?_
            refine nb_ge (tgt := 136) hx hb dX1_joined_66 (by decide) (by omega) (by omega) (fun c5 => ?_) (fun c5 => ?_)
            · rw [show (gL num).length - g = 0 by omega, mjL] at hf
              refine lv_iinc (v := nI (k + 1)) (lv' := [(2, .int (nI (k + 1))), (0, .ref h), (3, .int (nI g))]) hx hb dX1_joined_136 hl (k := 1) rfl (nI_1 _) (by decide) rfl (fun ls hl => ?_)
              refine lv_goto (tgt := 53) hx hb dX1_joined_139 (by decide) ?_
              exact ih1 (k + 1) f1 re1 _ (by omega) hr1 hf (by omega) _ _ hP hD hS (lv_sub hl [1, 0] rfl)
            · rw [show (gL num).length - g = ((gL num).length - (g + 1)) + 1 by omega, mjL] at hf
              obtain ⟨b1, b2, b3⟩ := hd g _ (gL_at c5)
              obtain ⟨a1, a2, a3, a4, a5⟩ := gL_ok c5
              have hbg := hbr g (by omega)
              refine lv_aload_n hx hb dX1_joined_69 rfl (lv_at hl 0 rfl) ?_
              refine g1_bridges hC hK hP dX1_joined_70 ?_
              refine lv_iload_n hx hb dX1_joined_73 rfl (lv_at hl 2 rfl) ?_
              refine l1_bridges hC hK hP (by omega) dX1_joined_74 ?_
              refine ct_i (y := nI (br g)) (hbg.1) ?_
              refine nz_le (tgt := 130) hx hb dX1_joined_75 (by decide) (by omega) (fun c6 => ?_) (fun c6 => ?_)
              · rw [mj1_n (fun q => absurd q.1 (by omega))] at hf
                refine lv_iinc (v := nI (g + 1)) (lv' := [(3, .int (nI (g + 1))), (0, .ref h), (2, .int (nI k))]) hx hb dX1_joined_130 hl (k := 2) rfl (nI_1 _) (by decide) rfl (fun ls hl => ?_)
                refine lv_goto (tgt := 61) hx hb dX1_joined_133 (by decide) ?_
                exact ih (g + 1) f1 re1 _ (by omega) hr1 hf (by omega) _ _ hP hD hS (lv_sub hl [1, 2, 0] rfl)
              · refine lv_aload_n hx hb dX1_joined_78 rfl (lv_at hl 0 rfl) ?_
                refine g1_reached hC hK hP dX1_joined_79 ?_
                refine lv_aload_n hx hb dX1_joined_82 rfl (lv_at hl 0 rfl) ?_
                refine g1_near hC hK hP dX1_joined_83 ?_
                refine lv_iload_n hx hb dX1_joined_86 rfl (lv_at hl 2 rfl) ?_
                refine l1_near hC hK hP (by omega) dX1_joined_87 ?_
                refine ct_i (y := nI (nrC num g)) (b1) ?_
                refine l1_reached hC hK hP (a1) dX1_joined_88 ?_
                refine ct_i (y := bo (re1 (nrC num g))) (hr1 _ a1) ?_
                refine bz_ne (tgt := 106) hx hb dX1_joined_89 (by decide) (fun c7 => ?_) (fun c7 => ?_)
                · rw [mj1_t ⟨c6, by rw [c7]; rfl⟩] at hf
                  refine lv_aload_n hx hb dX1_joined_106 rfl (lv_at hl 0 rfl) ?_
                  refine g1_reached hC hK hP dX1_joined_107 ?_
                  refine lv_aload_n hx hb dX1_joined_110 rfl (lv_at hl 0 rfl) ?_
                  refine g1_near hC hK hP dX1_joined_111 ?_
                  refine lv_iload_n hx hb dX1_joined_114 rfl (lv_at hl 2 rfl) ?_
                  refine l1_near hC hK hP (by omega) dX1_joined_115 ?_
                  refine ct_i (y := nI (nrC num g)) (b1) ?_
                  refine lv_iconst (v := nI 1) hx hb dX1_joined_116 (by decide) ?_
                  refine ct_i (y := bo true) (rfl) ?_
                  refine s1_reached hC hK hP hD hS (a1) dX1_joined_117 (fun H locs hP hD hS => ?_)
                  refine lv_aload_n hx hb dX1_joined_118 rfl (lv_at hl 0 rfl) ?_
                  refine g1_reached hC hK hP dX1_joined_119 ?_
                  refine lv_aload_n hx hb dX1_joined_122 rfl (lv_at hl 0 rfl) ?_
                  refine g1_far hC hK hP dX1_joined_123 ?_
                  refine lv_iload_n hx hb dX1_joined_126 rfl (lv_at hl 2 rfl) ?_
                  refine l1_far hC hK hP (by omega) dX1_joined_127 ?_
                  refine ct_i (y := nI (frC num g)) (b2) ?_
                  refine lv_iconst (v := nI 1) hx hb dX1_joined_128 (by decide) ?_
                  refine ct_i (y := bo true) (rfl) ?_
                  refine s1_reached hC hK hP hD hS (a3) dX1_joined_129 (fun H locs hP hD hS => ?_)
                  refine lv_iinc (v := nI (g + 1)) (lv' := [(3, .int (nI (g + 1))), (0, .ref h), (2, .int (nI k))]) hx hb dX1_joined_130 hl (k := 2) rfl (nI_1 _) (by decide) rfl (fun ls hl => ?_)
                  refine lv_goto (tgt := 61) hx hb dX1_joined_133 (by decide) ?_
                  exact ih (g + 1) _ _ _ (by omega) (re_set (re_set hr1 _) _) hf (by omega) _ _ hP hD hS (lv_sub hl [1, 2, 0] rfl)
                · refine lv_aload_n hx hb dX1_joined_92 rfl (lv_at hl 0 rfl) ?_
                  refine g1_reached hC hK hP dX1_joined_93 ?_
                  refine lv_aload_n hx hb dX1_joined_96 rfl (lv_at hl 0 rfl) ?_
                  refine g1_far hC hK hP dX1_joined_97 ?_
                  refine lv_iload_n hx hb dX1_joined_100 rfl (lv_at hl 2 rfl) ?_
                  refine l1_far hC hK hP (by omega) dX1_joined_101 ?_
                  refine ct_i (y := nI (frC num g)) (b2) ?_
                  refine l1_reached hC hK hP (a3) dX1_joined_102 ?_
                  refine ct_i (y := bo (re1 (frC num g))) (hr1 _ a3) ?_
                  refine bz_eq (tgt := 130) hx hb dX1_joined_103 (by decide) (fun c8 => ?_) (fun c8 => ?_)
                  · rw [mj1_n (fun q => by rw [c7, c8] at q; exact absurd q.2 (by decide))] at hf
                    refine lv_iinc (v := nI (g + 1)) (lv' := [(3, .int (nI (g + 1))), (0, .ref h), (2, .int (nI k))]) hx hb dX1_joined_130 hl (k := 2) rfl (nI_1 _) (by decide) rfl (fun ls hl => ?_)
                    refine lv_goto (tgt := 61) hx hb dX1_joined_133 (by decide) ?_
                    exact ih (g + 1) f1 re1 _ (by omega) hr1 hf (by omega) _ _ hP hD hS (lv_sub hl [1, 2, 0] rfl)
                  · rw [mj1_t ⟨c6, by rw [c8]; exact Bool.or_true _⟩] at hf
                    refine lv_aload_n hx hb dX1_joined_106 rfl (lv_at hl 0 rfl) ?_
                    refine g1_reached hC hK hP dX1_joined_107 ?_
                    refine lv_aload_n hx hb dX1_joined_110 rfl (lv_at hl 0 rfl) ?_
                    refine g1_near hC hK hP dX1_joined_111 ?_
                    refine lv_iload_n hx hb dX1_joined_114 rfl (lv_at hl 2 rfl) ?_
                    refine l1_near hC hK hP (by omega) dX1_joined_115 ?_
                    refine ct_i (y := nI (nrC num g)) (b1) ?_
                    refine lv_iconst (v := nI 1) hx hb dX1_joined_116 (by decide) ?_
                    refine ct_i (y := bo true) (rfl) ?_
                    refine s1_reached hC hK hP hD hS (a1) dX1_joined_117 (fun H locs hP hD hS => ?_)
                    refine lv_aload_n hx hb dX1_joined_118 rfl (lv_at hl 0 rfl) ?_
                    refine g1_reached hC hK hP dX1_joined_119 ?_
                    refine lv_aload_n hx hb dX1_joined_122 rfl (lv_at hl 0 rfl) ?_
                    refine g1_far hC hK hP dX1_joined_123 ?_
                    refine lv_iload_n hx hb dX1_joined_126 rfl (lv_at hl 2 rfl) ?_
                    refine l1_far hC hK hP (by omega) dX1_joined_127 ?_
                    refine ct_i (y := nI (frC num g)) (b2) ?_
                    refine lv_iconst (v := nI 1) hx hb dX1_joined_128 (by decide) ?_
                    refine ct_i (y := bo true) (rfl) ?_
                    refine s1_reached hC hK hP hD hS (a3) dX1_joined_129 (fun H locs hP hD hS => ?_)
                    refine lv_iinc (v := nI (g + 1)) (lv' := [(3, .int (nI (g + 1))), (0, .ref h), (2, .int (nI k))]) hx hb dX1_joined_130 hl (k := 2) rfl (nI_1 _) (by decide) rfl (fun ls hl => ?_)
                    refine lv_goto (tgt := 61) hx hb dX1_joined_133 (by decide) ?_
                    exact ih (g + 1) _ _ _ (by omega) (re_set (re_set hr1 _) _) hf (by omega) _ _ hP hD hS (lv_sub hl [1, 2, 0] rfl)
        refine lv_iconst (v := nI 0) hx hb dX1_joined_59 (by decide) ?_
        refine lv_istore_n (lv' := [(3, .int (nI 0)), (0, .ref h), (2, .int (nI k))]) hx hb dX1_joined_60 rfl hl (by decide) rfl (fun ls hl => ?_)
        exact lp4 ((gL num).length + 1) 0 f re _ (by omega) hre he (by omega) _ _ hP hD hS (lv_sub hl [1, 2, 0] rfl)
  have lp1 : ∀ (n : Nat) (c0 : Nat) (f : Nat → Int32) (ls : Array Slot), (c0 ≤ 36) → (∀ j, j < c0 → f j = bo (mR0 num j)) → 36 < c0 + n → ∀ (H : Heap) (locs : List Loc), va_P D vwCl (mdW h a dI dJ dZ (nI (gL num).length) fNu fNe fFa fBe fBr f) H → va_D A (mdW h a dI dJ dZ (nI (gL num).length) fNu fNe fFa fBe fBr f) → va_S A s.heap H locs → lv_has ls 4 [(0, .ref h), (1, .int (bo (decide (0 < rk num c0)))), (2, .int (nI c0))] → W p l e rm_m_joined s m ([.ref h] : List Value).toArray below meth c H locs 0 0 Q (F0 m 4 ls []) := by
    intro n
    induction n with
    | zero =>
      intro c0 f ls hc hre hfu
      exact absurd hfu (by omega)
    | succ n ih =>
      intro c0 f ls hc hre hfu H locs hP hD hS hl
      refine lv_iload_n hx hb dX1_joined_4 rfl (lv_at hl 2 rfl) ?_
      refine lv_bipush (v := nI 36) hx hb dX1_joined_5 (by decide) ?_
      refine nb_ge (tgt := 51) hx hb dX1_joined_7 (by decide) (by omega) (by omega) (fun c9 => ?_) (fun c9 => ?_)
      · refine lv_iconst (v := nI 0) hx hb dX1_joined_51 (by decide) ?_
        refine lv_istore_n (lv' := [(2, .int (nI 0)), (0, .ref h), (1, .int (bo (decide (0 < rk num c0))))]) hx hb dX1_joined_52 rfl hl (by decide) rfl (fun ls hl => ?_)
        exact lp2 8 0 f (mR0 num) _ (by omega) (fun j hj => hre j (by omega)) rfl (by omega) _ _ hP hD hS (lv_sub hl [1, 0] rfl)
      · have hn8 := (hnu c0 c9).2
        refine lv_aload_n hx hb dX1_joined_10 rfl (lv_at hl 0 rfl) ?_
        refine g1_reached hC hK hP dX1_joined_11 ?_
        refine lv_iload_n hx hb dX1_joined_14 rfl (lv_at hl 2 rfl) ?_
        refine lv_aload_n hx hb dX1_joined_15 rfl (lv_at hl 0 rfl) ?_
        refine g1_number hC hK hP dX1_joined_16 ?_
        refine lv_iload_n hx hb dX1_joined_19 rfl (lv_at hl 2 rfl) ?_
        refine l1_number hC hK hP (by omega) dX1_joined_20 ?_
        refine ct_i (y := nI (num c0)) ((hnu c0 c9).1) ?_
        refine nz_le (tgt := 32) hx hb dX1_joined_21 (by decide) (by omega) (fun c10 => ?_) (fun c10 => ?_)
        · refine lv_iconst (v := nI 0) hx hb dX1_joined_32 (by decide) ?_
          refine ct_i (y := bo false) (rfl) ?_
          refine s1_reached hC hK hP hD hS (by omega) dX1_joined_33 (fun H locs hP hD hS => ?_)
          refine lv_aload_n hx hb dX1_joined_34 rfl (lv_at hl 0 rfl) ?_
          refine g1_number hC hK hP dX1_joined_35 ?_
          refine lv_iload_n hx hb dX1_joined_38 rfl (lv_at hl 2 rfl) ?_
          refine l1_number hC hK hP (by omega) dX1_joined_39 ?_
          refine ct_i (y := nI (num c0)) ((hnu c0 c9).1) ?_
          refine nz_le (tgt := 45) hx hb dX1_joined_40 (by decide) (by omega) (fun c11 => ?_) (fun c11 => ?_)
          · refine lv_iinc (v := nI (c0 + 1)) (lv' := [(2, .int (nI (c0 + 1))), (0, .ref h), (1, .int (bo (decide (0 < rk num c0))))]) hx hb dX1_joined_45 hl (k := 2) rfl (nI_1 _) (by decide) rfl (fun ls hl => ?_)
            refine lv_goto (tgt := 4) hx hb dX1_joined_48 (by decide) ?_
            exact ih (c0 + 1) _ _ (by omega) (re_s hre (mR0_f (Or.inl c10))) (by omega) _ _ hP hD hS (by rw [rk_f c10]; exact (lv_sub hl [1, 2, 0] rfl))
          · exact absurd c11 (by omega)
        · refine lv_iload_n hx hb dX1_joined_24 rfl (lv_at hl 1 rfl) ?_
          refine bz_ne (tgt := 32) hx hb dX1_joined_25 (by decide) (fun c12 => ?_) (fun c12 => ?_)
          · refine lv_iconst (v := nI 0) hx hb dX1_joined_32 (by decide) ?_
            refine ct_i (y := bo false) (rfl) ?_
            refine s1_reached hC hK hP hD hS (by omega) dX1_joined_33 (fun H locs hP hD hS => ?_)
            refine lv_aload_n hx hb dX1_joined_34 rfl (lv_at hl 0 rfl) ?_
            refine g1_number hC hK hP dX1_joined_35 ?_
            refine lv_iload_n hx hb dX1_joined_38 rfl (lv_at hl 2 rfl) ?_
            refine l1_number hC hK hP (by omega) dX1_joined_39 ?_
            refine ct_i (y := nI (num c0)) ((hnu c0 c9).1) ?_
            refine nz_le (tgt := 45) hx hb dX1_joined_40 (by decide) (by omega) (fun c13 => ?_) (fun c13 => ?_)
            · exact absurd c13 (by omega)
            · refine lv_iconst (v := nI 1) hx hb dX1_joined_43 (by decide) ?_
              refine ct_i (y := bo true) (rfl) ?_
              refine lv_istore_n (lv' := [(1, .int (bo true)), (0, .ref h), (2, .int (nI c0))]) hx hb dX1_joined_44 rfl hl (by decide) rfl (fun ls hl => ?_)
              refine lv_iinc (v := nI (c0 + 1)) (lv' := [(2, .int (nI (c0 + 1))), (1, .int (bo true)), (0, .ref h)]) hx hb dX1_joined_45 hl (k := 2) rfl (nI_1 _) (by decide) rfl (fun ls hl => ?_)
              refine lv_goto (tgt := 4) hx hb dX1_joined_48 (by decide) ?_
              exact ih (c0 + 1) _ _ (by omega) (re_s hre (mR0_f (Or.inr (of_decide_eq_true c12)))) (by omega) _ _ hP hD hS (by rw [rk_t c10, decide_eq_true (by omega)]; exact (lv_sub hl [2, 1, 0] rfl))
          · refine lv_iconst (v := nI 1) hx hb dX1_joined_28 (by decide) ?_
            refine ct_i (y := bo true) (rfl) ?_
            refine lv_goto (tgt := 33) hx hb dX1_joined_29 (by decide) ?_
            refine s1_reached hC hK hP hD hS (by omega) dX1_joined_33 (fun H locs hP hD hS => ?_)
            refine lv_aload_n hx hb dX1_joined_34 rfl (lv_at hl 0 rfl) ?_
            refine g1_number hC hK hP dX1_joined_35 ?_
            refine lv_iload_n hx hb dX1_joined_38 rfl (lv_at hl 2 rfl) ?_
            refine l1_number hC hK hP (by omega) dX1_joined_39 ?_
            refine ct_i (y := nI (num c0)) ((hnu c0 c9).1) ?_
            refine nz_le (tgt := 45) hx hb dX1_joined_40 (by decide) (by omega) (fun c14 => ?_) (fun c14 => ?_)
            · exact absurd c14 (by omega)
            · refine lv_iconst (v := nI 1) hx hb dX1_joined_43 (by decide) ?_
              refine ct_i (y := bo true) (rfl) ?_
              refine lv_istore_n (lv' := [(1, .int (bo true)), (0, .ref h), (2, .int (nI c0))]) hx hb dX1_joined_44 rfl hl (by decide) rfl (fun ls hl => ?_)
              refine lv_iinc (v := nI (c0 + 1)) (lv' := [(2, .int (nI (c0 + 1))), (1, .int (bo true)), (0, .ref h)]) hx hb dX1_joined_45 hl (k := 2) rfl (nI_1 _) (by decide) rfl (fun ls hl => ?_)
              refine lv_goto (tgt := 4) hx hb dX1_joined_48 (by decide) ?_
              exact ih (c0 + 1) _ _ (by omega) (re_s hre (mR0_t c10 (by have := of_decide_eq_false c12; omega))) (by omega) _ _ hP hD hS (by rw [rk_t c10, decide_eq_true (by omega)]; exact (lv_sub hl [2, 1, 0] rfl))
  refine lv_iconst (v := nI 0) hx hb dX1_joined_0 (by decide) ?_
  refine ct_i (y := bo (decide (0 < rk num 0))) (rfl) ?_
  refine lv_istore_n (lv' := [(1, .int (bo (decide (0 < rk num 0)))), (0, .ref h)]) hx hb dX1_joined_1 rfl hl (by decide) rfl (fun ls hl => ?_)
  refine lv_iconst (v := nI 0) hx hb dX1_joined_2 (by decide) ?_
  refine lv_istore_n (lv' := [(2, .int (nI 0)), (1, .int (bo (decide (0 < rk num 0)))), (0, .ref h)]) hx hb dX1_joined_3 rfl hl (by decide) rfl (fun ls hl => ?_)
  exact lp1 37 0 _ _ (by omega) (fun j hj => by omega) (by omega) _ _ hP hD hS (lv_sub hl [2, 1, 0] rfl)
theorem k_m_joined {p : Program} {l : Launch} {e : Env} {R : Room} {s : State} {m : MethodId} {args : Array Value} {below : List Frame} {meth : Method} {c : Code} {H : Heap} {locs : List Loc} {Q : State → Prop} {cc : ByteArray} {pc nL : Nat} {ls : Array Slot} {rest : List Value} {D : va_G} {A : Nat → Prop} {H0 : Heap} {h : Nat} {a : Nat → Nat} {dI dJ dZ : ClassId} {fNu : Nat → Int32} {fNe : Nat → Int32} {fFa : Nat → Int32} {fBe : Nat → Int64} {fBr : Nat → Int32} {fRe : Nat → Int32} {num br : Nat → Nat} (hC : CallFix p m c cc nL s args lw_all RX1) (hK : va_K D vwCl (kM dI dJ dZ) s) (hP : va_P D vwCl (mdW h a dI dJ dZ (nI (gL num).length) fNu fNe fFa fBe fBr fRe) H) (hD : va_D A (mdW h a dI dJ dZ (nI (gL num).length) fNu fNe fFa fBe fBr fRe)) (hS : va_S A H0 H locs) (hA : ∀ q, H0.size ≤ q → A q) (hR : rm_m_joined.frames + 1 ≤ R.frames ∧ 8 + (4 + 11) + rm_m_joined.locals ≤ R.locals) (hl : ls.size = nL) (hW : (rest.map fun v => v.category).sum ≤ 8) (hM : mdI num fNu fNe fFa fBe) (hbr : brI fBr br) (hdg : decode cc pc = .ok (.invokevirtual 56, 3)) (kk : ∀ (r : Int32) (re1 : Nat → Int32) (H1 : Heap) (locs1 : List Loc), (r = bo (mJoi num br)) → va_P D vwCl (mdW h a dI dJ dZ (nI (gL num).length) fNu fNe fFa fBe fBr re1) H1 → va_D A (mdW h a dI dJ dZ (nI (gL num).length) fNu fNe fFa fBe fBr re1) → va_S A H0 H1 locs1 → W p l e R s m args below meth c H1 locs1 0 0 Q (F0 m (pc + 3) ls (.int r :: rest))) : W p l e R s m args below meth c H locs 0 0 Q (F0 m pc ls (.ref h :: rest)) := km_i hC (t_m_joined l D h a dI dJ dZ fNu fNe fFa fBe fBr fRe num br hM hbr H.size) (cwV 0 hC.2.2.2.2 (lw_V q283 q285 qs21 q25 q286) rfl rfl rfl (by decide +kernel) hR) rfl rfl rfl hl rfl hW ⟨Nat.zero_le _, Nat.zero_le _⟩ hP hK hD hS hA hdg (fun r u H1 locs1 a1 a2 a3 a4 => kk r u H1 locs1 a1 a2 a3 a4)
abbrev rm_m_solves : Room := { frames := 1, cells := 0, slots := 0, locals := 23 }
set_option maxHeartbeats 4000000 in
set_option maxRecDepth 100000 in
/-- solves -/
theorem t_m_solves (l : Launch) (D : va_G) (h : Nat) (a : Nat → Nat) (dI dJ dZ : ClassId) (fNu : Nat → Int32) (fNe : Nat → Int32) (fFa : Nat → Int32) (fBe : Nat → Int64) (fBr : Nat → Int32) (fRe : Nat → Int32) (num br : Nat → Nat) (hM : mdI num fNu fNe fFa fBe) (hbr : brI fBr br) (sz : Nat) : Met l yX1_solves (ws_ yX1_solves cX1_solves 1 (some .boolean)) rm_m_solves (cP D (kM dI dJ dZ) (mdW h a dI dJ dZ (nI (gL num).length) fNu fNe fFa fBe fBr fRe) sz [.ref h]) (cQi D (kM dI dJ dZ) (mdW h a dI dJ dZ (nI (gL num).length) fNu fNe fFa fBe fBr fRe) sz (fun (r : Int32) (u : (Nat → Int32)) => r = bo (mSol num br)) (fun (u : (Nat → Int32)) => mdW h a dI dJ dZ (nI (gL num).length) fNu fNe fFa fBe fBr u)) 0 0 (va_A (mdW h a dI dJ dZ (nI (gL num).length) fNu fNe fFa fBe fBr fRe) sz) := by
  refine en_z (by decide) (Nat.le_of_ble_eq_true rfl) ?_
  intro p e s m below meth c ls Q A hC hP hK hD hA hS hl hret
  have hC : CallFix p m c cX1_solves 1 s _ lw_all RX1 := hC
  have hx := hC.1
  have hb := hC.2.1
  have hl : lv_has ls 1 [(0, .ref h)] := hl
  refine lv_aload_n hx hb dX1_solves_0 rfl (lv_at hl 0 rfl) ?_
  refine k_m_summed (num := num) (br := br) hC hK hP (by decide) hl.1 (Nat.le_of_ble_eq_true rfl) hM hbr dX1_solves_1 ?_
  refine bz_eq (tgt := 25) hx hb dX1_solves_4 (by decide) (fun c1 => ?_) (fun c1 => ?_)
  · refine lv_iconst (v := nI 0) hx hb dX1_solves_25 (by decide) ?_
    exact hret _ _ 26 _ false fRe dX1_solves_26 (by rw [show mSol num br = false from by rw [mSol, c1, Bool.false_and]]) hP hD hS
  · refine lv_aload_n hx hb dX1_solves_7 rfl (lv_at hl 0 rfl) ?_
    refine k_m_apart (num := num) (br := br) hC hK hP (by decide) hl.1 (Nat.le_of_ble_eq_true rfl) hM hbr dX1_solves_8 ?_
    refine bz_eq (tgt := 25) hx hb dX1_solves_11 (by decide) (fun c2 => ?_) (fun c2 => ?_)
    · refine lv_iconst (v := nI 0) hx hb dX1_solves_25 (by decide) ?_
      exact hret _ _ 26 _ false fRe dX1_solves_26 (by rw [show mSol num br = false from by rw [mSol, c2, Bool.false_and, Bool.and_false]]) hP hD hS
    · refine lv_aload_n hx hb dX1_solves_14 rfl (lv_at hl 0 rfl) ?_
      refine k_m_joined (num := num) (br := br) hC hK hP hD hS hA (by decide) hl.1 (Nat.le_of_ble_eq_true rfl) hM hbr dX1_solves_15 (fun r9 re9 H locs hr9 hP hD hS => ?_)
      refine ct_i (y := bo (mJoi num br)) (hr9) ?_
      refine bz_eq (tgt := 25) hx hb dX1_solves_18 (by decide) (fun c3 => ?_) (fun c3 => ?_)
      · refine lv_iconst (v := nI 0) hx hb dX1_solves_25 (by decide) ?_
        exact hret _ _ 26 _ false re9 dX1_solves_26 (by rw [show mSol num br = false from by rw [mSol, c1, c2, c3, Bool.and_false, Bool.and_false]]) hP hD hS
      · refine lv_iconst (v := nI 1) hx hb dX1_solves_21 (by decide) ?_
        refine lv_goto (tgt := 26) hx hb dX1_solves_22 (by decide) ?_
        exact hret _ _ 26 _ true re9 dX1_solves_26 (by rw [show mSol num br = true from by rw [mSol, c1, c2, c3]; rfl]) hP hD hS
theorem k_m_solves {p : Program} {l : Launch} {e : Env} {R : Room} {s : State} {m : MethodId} {args : Array Value} {below : List Frame} {meth : Method} {c : Code} {H : Heap} {locs : List Loc} {Q : State → Prop} {cc : ByteArray} {pc nL : Nat} {ls : Array Slot} {rest : List Value} {D : va_G} {A : Nat → Prop} {H0 : Heap} {h : Nat} {a : Nat → Nat} {dI dJ dZ : ClassId} {fNu : Nat → Int32} {fNe : Nat → Int32} {fFa : Nat → Int32} {fBe : Nat → Int64} {fBr : Nat → Int32} {fRe : Nat → Int32} {num br : Nat → Nat} (hC : CallFix p m c cc nL s args lw_all RX1) (hK : va_K D vwCl (kM dI dJ dZ) s) (hP : va_P D vwCl (mdW h a dI dJ dZ (nI (gL num).length) fNu fNe fFa fBe fBr fRe) H) (hD : va_D A (mdW h a dI dJ dZ (nI (gL num).length) fNu fNe fFa fBe fBr fRe)) (hS : va_S A H0 H locs) (hA : ∀ q, H0.size ≤ q → A q) (hR : rm_m_solves.frames + 1 ≤ R.frames ∧ 8 + (1 + 11) + rm_m_solves.locals ≤ R.locals) (hl : ls.size = nL) (hW : (rest.map fun v => v.category).sum ≤ 8) (hM : mdI num fNu fNe fFa fBe) (hbr : brI fBr br) (hdg : decode cc pc = .ok (.invokevirtual 62, 3)) (kk : ∀ (r : Int32) (re1 : Nat → Int32) (H1 : Heap) (locs1 : List Loc), (r = bo (mSol num br)) → va_P D vwCl (mdW h a dI dJ dZ (nI (gL num).length) fNu fNe fFa fBe fBr re1) H1 → va_D A (mdW h a dI dJ dZ (nI (gL num).length) fNu fNe fFa fBe fBr re1) → va_S A H0 H1 locs1 → W p l e R s m args below meth c H1 locs1 0 0 Q (F0 m (pc + 3) ls (.int r :: rest))) : W p l e R s m args below meth c H locs 0 0 Q (F0 m pc ls (.ref h :: rest)) := km_i hC (t_m_solves l D h a dI dJ dZ fNu fNe fFa fBe fBr fRe num br hM hbr H.size) (cwV 0 hC.2.2.2.2 (lw_V q271 q273 qs18 q25 q274) rfl rfl rfl (by decide +kernel) hR) rfl rfl rfl hl rfl hW ⟨Nat.zero_le _, Nat.zero_le _⟩ hP hK hD hS hA hdg (fun r u H1 locs1 a1 a2 a3 a4 => kk r u H1 locs1 a1 a2 a3 a4)
abbrev rm_m_begin : Room := { frames := 0, cells := 0, slots := 0, locals := 0 }
set_option maxHeartbeats 4000000 in
set_option maxRecDepth 100000 in
/-- begin -/
theorem t_m_begin (l : Launch) (D : va_G) (h : Nat) (a : Nat → Nat) (dI dJ dZ : ClassId) (vGa : Int32) (fNu : Nat → Int32) (fNe : Nat → Int32) (fFa : Nat → Int32) (fBe : Nat → Int64) (fBr : Nat → Int32) (fRe : Nat → Int32)   (sz : Nat) : Met l yX1_begin (ws_ yX1_begin cX1_begin 2 none) rm_m_begin (cP D (kM dI dJ dZ) (mdW h a dI dJ dZ vGa fNu fNe fFa fBe fBr fRe) sz [.ref h]) (cQv D (kM dI dJ dZ) (mdW h a dI dJ dZ vGa fNu fNe fFa fBe fBr fRe) sz (fun (u : Unit) => True) (fun (u : Unit) => mdW h a dI dJ dZ vGa fNu fNe fFa fBe (clr 16 fBr) fRe)) 0 0 (va_A (mdW h a dI dJ dZ vGa fNu fNe fFa fBe fBr fRe) sz) := by
  refine en_v (by decide) (Nat.le_of_ble_eq_true rfl) ?_
  intro p e s m below meth c ls Q A hC hP hK hD hA hS hl hret
  have hC : CallFix p m c cX1_begin 2 s _ lw_all RX1 := hC
  have hx := hC.1
  have hb := hC.2.1
  have hl : lv_has ls 2 [(0, .ref h)] := hl
  have lp : ∀ (n : Nat) (g : Nat) (ls : Array Slot), (g ≤ 16) → 16 < g + n → ∀ (H : Heap) (locs : List Loc), va_P D vwCl (mdW h a dI dJ dZ vGa fNu fNe fFa fBe (clr g fBr) fRe) H → va_D A (mdW h a dI dJ dZ vGa fNu fNe fFa fBe (clr g fBr) fRe) → va_S A s.heap H locs → lv_has ls 2 [(0, .ref h), (1, .int (nI g))] → W p l e rm_m_begin s m ([.ref h] : List Value).toArray below meth c H locs 0 0 Q (F0 m 2 ls []) := by
    intro n
    induction n with
    | zero =>
      intro g ls hg hfu
      exact absurd hfu (by omega)
    | succ n ih =>
      intro g ls hg hfu H locs hP hD hS hl
      refine lv_iload_n hx hb dX1_begin_2 rfl (lv_at hl 1 rfl) ?_
      refine lv_bipush (v := nI 16) hx hb dX1_begin_3 (by decide) ?_
      refine nb_ge (tgt := 21) hx hb dX1_begin_5 (by decide) (by omega) (by omega) (fun c1 => ?_) (fun c1 => ?_)
      · obtain rfl : 16 = g := by omega
        exact hret _ _ 21 _ () dX1_begin_21 (trivial) hP hD hS
      · refine lv_aload_n hx hb dX1_begin_8 rfl (lv_at hl 0 rfl) ?_
        refine g1_bridges hC hK hP dX1_begin_9 ?_
        refine lv_iload_n hx hb dX1_begin_12 rfl (lv_at hl 1 rfl) ?_
        refine lv_iconst (v := nI 0) hx hb dX1_begin_13 (by decide) ?_
        refine s1_bridges hC hK hP hD hS (by omega) dX1_begin_14 (fun H locs hP hD hS => ?_)
        refine lv_iinc (v := nI (g + 1)) (lv' := [(1, .int (nI (g + 1))), (0, .ref h)]) hx hb dX1_begin_15 hl (k := 1) rfl (nI_1 _) (by decide) rfl (fun ls hl => ?_)
        refine lv_goto (tgt := 2) hx hb dX1_begin_18 (by decide) ?_
        rw [clr_s] at hP hD
        exact ih (g + 1) _ (by omega) (by omega) _ _ hP hD hS (lv_sub hl [1, 0] rfl)
  refine lv_iconst (v := nI 0) hx hb dX1_begin_0 (by decide) ?_
  refine lv_istore_n (lv' := [(1, .int (nI 0)), (0, .ref h)]) hx hb dX1_begin_1 rfl hl (by decide) rfl (fun ls hl => ?_)
  rw [← clr_0 fBr] at hP hD
  exact lp 17 0 _ (by omega) (by omega) _ _ hP hD hS (lv_sub hl [1, 0] rfl)
theorem k_m_begin {p : Program} {l : Launch} {e : Env} {R : Room} {s : State} {m : MethodId} {args : Array Value} {below : List Frame} {meth : Method} {c : Code} {H : Heap} {locs : List Loc} {Q : State → Prop} {cc : ByteArray} {pc nL : Nat} {ls : Array Slot} {rest : List Value} {D : va_G} {A : Nat → Prop} {H0 : Heap} {h : Nat} {a : Nat → Nat} {dI dJ dZ : ClassId} {vGa : Int32} {fNu : Nat → Int32} {fNe : Nat → Int32} {fFa : Nat → Int32} {fBe : Nat → Int64} {fBr : Nat → Int32} {fRe : Nat → Int32}  (hC : CallFix p m c cc nL s args lw_all RX1) (hK : va_K D vwCl (kM dI dJ dZ) s) (hP : va_P D vwCl (mdW h a dI dJ dZ vGa fNu fNe fFa fBe fBr fRe) H) (hD : va_D A (mdW h a dI dJ dZ vGa fNu fNe fFa fBe fBr fRe)) (hS : va_S A H0 H locs) (hA : ∀ q, H0.size ≤ q → A q) (hR : rm_m_begin.frames + 1 ≤ R.frames ∧ 8 + (2 + 11) + rm_m_begin.locals ≤ R.locals) (hl : ls.size = nL) (hW : (rest.map fun v => v.category).sum ≤ 8)  (hdg : decode cc pc = .ok (.invokevirtual 59, 3)) (kk : ∀  (H1 : Heap) (locs1 : List Loc), (True) → va_P D vwCl (mdW h a dI dJ dZ vGa fNu fNe fFa fBe (clr 16 fBr) fRe) H1 → va_D A (mdW h a dI dJ dZ vGa fNu fNe fFa fBe (clr 16 fBr) fRe) → va_S A H0 H1 locs1 → W p l e R s m args below meth c H1 locs1 0 0 Q (F0 m (pc + 3) ls rest)) : W p l e R s m args below meth c H locs 0 0 Q (F0 m pc ls (.ref h :: rest)) := km_v hC (t_m_begin l D h a dI dJ dZ vGa fNu fNe fFa fBe fBr fRe   H.size) (cwV 0 hC.2.2.2.2 (lw_V q267 q269 qs17 q25 q270) rfl rfl rfl (by decide +kernel) hR) rfl rfl rfl hl rfl hW ⟨Nat.zero_le _, Nat.zero_le _⟩ hP hK hD hS hA hdg (fun u H1 locs1 a1 a2 a3 a4 => kk  H1 locs1 a1 a2 a3 a4)
abbrev rm_m_next : Room := { frames := 0, cells := 0, slots := 0, locals := 0 }
set_option maxHeartbeats 4000000 in
set_option maxRecDepth 100000 in
/-- next -/
theorem t_m_next (l : Launch) (D : va_G) (h : Nat) (a : Nat → Nat) (dI dJ dZ : ClassId) (fNu : Nat → Int32) (fNe : Nat → Int32) (fFa : Nat → Int32) (fBe : Nat → Int64) (fBr : Nat → Int32) (fRe : Nat → Int32) (num br : Nat → Nat) (hM : mdI num fNu fNe fFa fBe) (hbr : brI fBr br) (sz : Nat) : Met l yX1_next (ws_ yX1_next cX1_next 2 (some .boolean)) rm_m_next (cP D (kM dI dJ dZ) (mdW h a dI dJ dZ (nI (gL num).length) fNu fNe fFa fBe fBr fRe) sz [.ref h]) (cQi D (kM dI dJ dZ) (mdW h a dI dJ dZ (nI (gL num).length) fNu fNe fFa fBe fBr fRe) sz (fun (r : Int32) (u : (Nat → Int32)) => r = bo (nxF (gL num).length br).1 ∧ brI u (nxF (gL num).length br).2) (fun (u : (Nat → Int32)) => mdW h a dI dJ dZ (nI (gL num).length) fNu fNe fFa fBe u fRe)) 0 0 (va_A (mdW h a dI dJ dZ (nI (gL num).length) fNu fNe fFa fBe fBr fRe) sz) := by
  refine en_z (by decide) (Nat.le_of_ble_eq_true rfl) ?_
  intro p e s m below meth c ls Q A hC hP hK hD hA hS hl hret
  have hC : CallFix p m c cX1_next 2 s _ lw_all RX1 := hC
  have hx := hC.1
  have hb := hC.2.1
  have hl : lv_has ls 2 [(0, .ref h)] := hl
  obtain ⟨hnu, h7, hd⟩ := id hM
  have h14 := gL_len h7
  have lp : ∀ (n : Nat) (gg : Nat) (f : Nat → Int32) (b0 : Nat → Nat) (ls : Array Slot), (gg ≤ (gL num).length) → (brI f b0) → (nxF gg b0 = nxF (gL num).length br) → gg < n → ∀ (H : Heap) (locs : List Loc), va_P D vwCl (mdW h a dI dJ dZ (nI (gL num).length) fNu fNe fFa fBe f fRe) H → va_D A (mdW h a dI dJ dZ (nI (gL num).length) fNu fNe fFa fBe f fRe) → va_S A s.heap H locs → lv_has ls 2 [(0, .ref h), (1, .int (dpI gg))] → W p l e rm_m_next s m ([.ref h] : List Value).toArray below meth c H locs 0 0 Q (F0 m 7 ls []) := by
    intro n
    induction n with
    | zero =>
      intro gg f b0 ls hg hb0 he hfu
      exact absurd hfu (by omega)
    | succ n ih =>
      intro gg f b0 ls hg hb0 he hfu H locs hP hD hS hl
      cases gg with
      | zero =>
        have hl : lv_has ls 2 [(0, .ref h), (1, .int (-1))] := hl
        refine lv_iload_n hx hb dX1_next_7 rfl (lv_at hl 1 rfl) ?_
        refine lv_if_lt (tgt := 46) hx hb dX1_next_8 (by decide) (fun c1 => ?_) (fun c1 => ?_)
        · refine lv_iconst (v := nI 0) hx hb dX1_next_46 (by decide) ?_
          exact hret _ _ 47 _ false f dX1_next_47 (by rw [← he]; exact ⟨rfl, hb0⟩) hP hD hS
        · exact absurd (by decide) c1
      | succ g =>
        have hl : lv_has ls 2 [(0, .ref h), (1, .int (nI g))] := hl
        have hbg := hb0 g (by omega)
        rw [nxF] at he
        refine lv_iload_n hx hb dX1_next_7 rfl (lv_at hl 1 rfl) ?_
        refine nz_lt (tgt := 46) hx hb dX1_next_8 (by decide) (by omega) ?_
        refine lv_aload_n hx hb dX1_next_11 rfl (lv_at hl 0 rfl) ?_
        refine g1_bridges hC hK hP dX1_next_12 ?_
        refine lv_iload_n hx hb dX1_next_15 rfl (lv_at hl 1 rfl) ?_
        refine l1_bridges hC hK hP (by omega) dX1_next_16 ?_
        refine ct_i (y := nI (b0 g)) (hbg.1) ?_
        refine lv_iconst (v := nI 2) hx hb dX1_next_17 (by decide) ?_
        refine nb_ge (tgt := 33) hx hb dX1_next_18 (by decide) (by omega) (by omega) (fun c3 => ?_) (fun c3 => ?_)
        · rw [if_neg (by omega)] at he
          refine lv_aload_n hx hb dX1_next_33 rfl (lv_at hl 0 rfl) ?_
          refine g1_bridges hC hK hP dX1_next_34 ?_
          refine lv_iload_n hx hb dX1_next_37 rfl (lv_at hl 1 rfl) ?_
          refine lv_iconst (v := nI 0) hx hb dX1_next_38 (by decide) ?_
          refine s1_bridges hC hK hP hD hS (by omega) dX1_next_39 (fun H locs hP hD hS => ?_)
          refine lv_iinc (v := dpI g) (lv' := [(1, .int (dpI g)), (0, .ref h)]) hx hb dX1_next_40 hl (k := 1) rfl (dpI_m1 g) (by decide) rfl (fun ls hl => ?_)
          refine lv_goto (tgt := 7) hx hb dX1_next_43 (by decide) ?_
          exact ih g _ _ _ (by omega) (brI_set hb0 (by omega)) he (by omega) _ _ hP hD hS (lv_sub hl [1, 0] rfl)
        · rw [if_pos c3] at he
          refine lv_aload_n hx hb dX1_next_21 rfl (lv_at hl 0 rfl) ?_
          refine g1_bridges hC hK hP dX1_next_22 ?_
          refine lv_iload_n hx hb dX1_next_25 rfl (lv_at hl 1 rfl) ?_
          refine lv_dup2_11 hx hb dX1_next_26 rfl rfl ?_
          refine l1_bridges hC hK hP (by omega) dX1_next_27 ?_
          refine ct_i (y := nI (b0 g)) (hbg.1) ?_
          refine lv_iconst (v := nI 1) hx hb dX1_next_28 (by decide) ?_
          refine nn_add hx hb dX1_next_29 ?_
          refine s1_bridges hC hK hP hD hS (by omega) dX1_next_30 (fun H locs hP hD hS => ?_)
          refine lv_iconst (v := nI 1) hx hb dX1_next_31 (by decide) ?_
          exact hret _ _ 32 _ true (upd f g (nI (b0 g + 1))) dX1_next_32 (by rw [← he]; exact ⟨rfl, brI_set hb0 (by omega)⟩) hP hD hS
  refine lv_aload_n hx hb dX1_next_0 rfl (lv_at hl 0 rfl) ?_
  refine g1_gaps hC hK hP dX1_next_1 ?_
  refine lv_iconst (v := nI 1) hx hb dX1_next_4 (by decide) ?_
  refine lv_isub hx hb dX1_next_5 ?_
  refine ct_i (y := dpI (gL num).length) (sub1_dp _) ?_
  refine lv_istore_n (lv' := [(1, .int (dpI (gL num).length)), (0, .ref h)]) hx hb dX1_next_6 rfl hl (by decide) rfl (fun ls hl => ?_)
  exact lp ((gL num).length + 1) (gL num).length _ _ _ (Nat.le_refl _) hbr rfl (by omega) _ _ hP hD hS (lv_sub hl [1, 0] rfl)
theorem k_m_next {p : Program} {l : Launch} {e : Env} {R : Room} {s : State} {m : MethodId} {args : Array Value} {below : List Frame} {meth : Method} {c : Code} {H : Heap} {locs : List Loc} {Q : State → Prop} {cc : ByteArray} {pc nL : Nat} {ls : Array Slot} {rest : List Value} {D : va_G} {A : Nat → Prop} {H0 : Heap} {h : Nat} {a : Nat → Nat} {dI dJ dZ : ClassId} {fNu : Nat → Int32} {fNe : Nat → Int32} {fFa : Nat → Int32} {fBe : Nat → Int64} {fBr : Nat → Int32} {fRe : Nat → Int32} {num br : Nat → Nat} (hC : CallFix p m c cc nL s args lw_all RX1) (hK : va_K D vwCl (kM dI dJ dZ) s) (hP : va_P D vwCl (mdW h a dI dJ dZ (nI (gL num).length) fNu fNe fFa fBe fBr fRe) H) (hD : va_D A (mdW h a dI dJ dZ (nI (gL num).length) fNu fNe fFa fBe fBr fRe)) (hS : va_S A H0 H locs) (hA : ∀ q, H0.size ≤ q → A q) (hR : rm_m_next.frames + 1 ≤ R.frames ∧ 8 + (2 + 11) + rm_m_next.locals ≤ R.locals) (hl : ls.size = nL) (hW : (rest.map fun v => v.category).sum ≤ 8) (hM : mdI num fNu fNe fFa fBe) (hbr : brI fBr br) (hdg : decode cc pc = .ok (.invokevirtual 65, 3)) (kk : ∀ (r : Int32) (br1 : Nat → Int32) (H1 : Heap) (locs1 : List Loc), (r = bo (nxF (gL num).length br).1 ∧ brI br1 (nxF (gL num).length br).2) → va_P D vwCl (mdW h a dI dJ dZ (nI (gL num).length) fNu fNe fFa fBe br1 fRe) H1 → va_D A (mdW h a dI dJ dZ (nI (gL num).length) fNu fNe fFa fBe br1 fRe) → va_S A H0 H1 locs1 → W p l e R s m args below meth c H1 locs1 0 0 Q (F0 m (pc + 3) ls (.int r :: rest))) : W p l e R s m args below meth c H locs 0 0 Q (F0 m pc ls (.ref h :: rest)) := km_i hC (t_m_next l D h a dI dJ dZ fNu fNe fFa fBe fBr fRe num br hM hbr H.size) (cwV 0 hC.2.2.2.2 (lw_V q287 q289 qs22 q25 q290) rfl rfl rfl (by decide +kernel) hR) rfl rfl rfl hl rfl hW ⟨Nat.zero_le _, Nat.zero_le _⟩ hP hK hD hS hA hdg (fun r u H1 locs1 a1 a2 a3 a4 => kk r u H1 locs1 a1 a2 a3 a4)
abbrev rm_m_count : Room := { frames := 2, cells := 0, slots := 0, locals := 43 }
set_option maxHeartbeats 4000000 in
set_option maxRecDepth 100000 in
/-- count -/
theorem t_m_count (l : Launch) (D : va_G) (h : Nat) (a : Nat → Nat) (dI dJ dZ : ClassId) (fNu : Nat → Int32) (fNe : Nat → Int32) (fFa : Nat → Int32) (fBe : Nat → Int64) (fBr : Nat → Int32) (fRe : Nat → Int32) (num : Nat → Nat) (x y : Int32) (hM : mdI num fNu fNe fFa fBe) (hx6 : x < 0 ∨ x.toNatClampNeg < 16) (sz : Nat) : Met l yX1_count (ws_ yX1_count cX1_count 6 (some .int)) rm_m_count (cP D (kM dI dJ dZ) (mdW h a dI dJ dZ (nI (gL num).length) fNu fNe fFa fBe fBr fRe) sz [.ref h, .int x, .int y]) (cQi D (kM dI dJ dZ) (mdW h a dI dJ dZ (nI (gL num).length) fNu fNe fFa fBe fBr fRe) sz (fun (r : Int32) (u : (Nat → Int32) × (Nat → Int32)) => r = nI (ctF (gL num).length (selP num x y) 6561 zF 0)) (fun (u : (Nat → Int32) × (Nat → Int32)) => mdW h a dI dJ dZ (nI (gL num).length) fNu fNe fFa fBe u.1 u.2)) 0 0 (va_A (mdW h a dI dJ dZ (nI (gL num).length) fNu fNe fFa fBe fBr fRe) sz) := by
  refine en_i (by decide) (Nat.le_of_ble_eq_true rfl) ?_
  intro p e s m below meth c ls Q A hC hP hK hD hA hS hl hret
  have hC : CallFix p m c cX1_count 6 s _ lw_all RX1 := hC
  have hx := hC.1
  have hb := hC.2.1
  have hl : lv_has ls 6 [(0, .ref h), (1, .int x), (2, .int y)] := hl
  obtain ⟨hnu, h7, hd⟩ := id hM
  have h14 := gL_len h7
  generalize hT : ctF (gL num).length (selP num x y) 6561 zF 0 = T at hret
  have lp : ∀ (n : Nat) (i acc : Nat) (more : Bool) (b0 : Nat → Nat) (f re : Nat → Int32) (ls : Array Slot), (i ≤ 6561) → (brI f b0) → (T = if more then ctF (gL num).length (selP num x y) (6561 - i) b0 acc else acc) → 6561 < i + n → ∀ (H : Heap) (locs : List Loc), va_P D vwCl (mdW h a dI dJ dZ (nI (gL num).length) fNu fNe fFa fBe f re) H → va_D A (mdW h a dI dJ dZ (nI (gL num).length) fNu fNe fFa fBe f re) → va_S A s.heap H locs → lv_has ls 6 [(0, .ref h), (1, .int x), (2, .int y), (3, .int (nI acc)), (4, .int (bo more)), (5, .int (nI i))] → W p l e rm_m_count s m ([.ref h, .int x, .int y] : List Value).toArray below meth c H locs 0 0 Q (F0 m 12 ls []) := by
    intro n
    induction n with
    | zero =>
      intro i acc more b0 f re ls hi hb0 he hfu
      exact absurd hfu (by omega)
    | succ n ih =>
      intro i acc more b0 f re ls hi hb0 he hfu H locs hP hD hS hl
      refine lv_iload hx hb dX1_count_12 (lv_at hl 5 rfl) ?_
      refine lv_sipush (v := nI 6561) hx hb dX1_count_14 (by decide) ?_
      refine nb_ge (tgt := 61) hx hb dX1_count_17 (by decide) (by omega) (by omega) (fun c1 => ?_) (fun c1 => ?_)
      · refine lv_iload_n hx hb dX1_count_61 rfl (lv_at hl 3 rfl) ?_
        exact hret _ _ 62 _ _ (f, re) dX1_count_62 (by rw [he, show 6561 - i = 0 by omega, ctF]; cases more <;> rfl) hP hD hS
      · refine lv_iload hx hb dX1_count_20 (lv_at hl 4 rfl) ?_
        refine bz_eq (tgt := 61) hx hb dX1_count_22 (by decide) (fun c2 => ?_) (fun c2 => ?_)
        · refine lv_iload_n hx hb dX1_count_61 rfl (lv_at hl 3 rfl) ?_
          exact hret _ _ 62 _ _ (f, re) dX1_count_62 (by rw [he, c2]; rfl) hP hD hS
        · rw [c2, if_pos rfl, show 6561 - i = (6561 - (i + 1)) + 1 by omega, ctF] at he
          rw [c2] at hl
          have j49 : ∀ (ac2 : Nat) (re2 : Nat → Int32) (ls : Array Slot), (ac2 = acc + (if selP num x y b0 then 1 else 0)) → ∀ (H : Heap) (locs : List Loc), va_P D vwCl (mdW h a dI dJ dZ (nI (gL num).length) fNu fNe fFa fBe f re2) H → va_D A (mdW h a dI dJ dZ (nI (gL num).length) fNu fNe fFa fBe f re2) → va_S A s.heap H locs → lv_has ls 6 [(0, .ref h), (1, .int x), (2, .int y), (3, .int (nI ac2)), (4, .int (bo true)), (5, .int (nI i))] → W p l e rm_m_count s m ([.ref h, .int x, .int y] : List Value).toArray below meth c H locs 0 0 Q (F0 m 49 ls []) := by
            intro ac2 re2 ls hac H locs hP hD hS hl
            rw [← hac] at he
            refine lv_aload_n hx hb dX1_count_49 rfl (lv_at hl 0 rfl) ?_
            refine k_m_next (num := num) (br := b0) hC hK hP hD hS hA (by decide) hl.1 (Nat.le_of_ble_eq_true rfl) hM hb0 dX1_count_50 (fun r9 br9 H locs ⟨hr9, hb9⟩ hP hD hS => ?_)
            refine ct_i (y := bo ((nxF (gL num).length b0).1)) (hr9) ?_
            refine lv_istore (lv' := [(4, .int (bo ((nxF (gL num).length b0).1))), (0, .ref h), (1, .int x), (2, .int y), (3, .int (nI ac2)), (5, .int (nI i))]) hx hb dX1_count_53 hl (by decide) rfl (fun ls hl => ?_)
            refine lv_iinc (v := nI (i + 1)) (lv' := [(5, .int (nI (i + 1))), (4, .int (bo ((nxF (gL num).length b0).1))), (0, .ref h), (1, .int x), (2, .int y), (3, .int (nI ac2))]) hx hb dX1_count_55 hl (k := 5) rfl (nI_1 _) (by decide) rfl (fun ls hl => ?_)
            refine lv_goto (tgt := 12) hx hb dX1_count_58 (by decide) ?_
            exact ih (i + 1) ac2 (nxF (gL num).length b0).1 _ _ _ _ (by omega) hb9 he (by omega) _ _ hP hD hS (lv_sub hl [2, 3, 4, 5, 1, 0] rfl)
          refine lv_iload_n hx hb dX1_count_25 rfl (lv_at hl 1 rfl) ?_
          refine lv_if_lt (tgt := 39) hx hb dX1_count_26 (by decide) (fun c3 => ?_) (fun c3 => ?_)
          · have hsel : (decide (x < 0) || decide (nI (b0 x.toNatClampNeg) = y)) = true := by simp [c3]
            refine lv_aload_n hx hb dX1_count_39 rfl (lv_at hl 0 rfl) ?_
            refine k_m_solves (num := num) (br := b0) hC hK hP hD hS hA (by decide) hl.1 (Nat.le_of_ble_eq_true rfl) hM hb0 dX1_count_40 (fun r9 re9 H locs hr9 hP hD hS => ?_)
            refine ct_i (y := bo (mSol num b0)) (hr9) ?_
            refine bz_eq (tgt := 49) hx hb dX1_count_43 (by decide) (fun c4 => ?_) (fun c4 => ?_)
            · exact j49 acc _ _ (by rw [show selP num x y b0 = false from by rw [selP, c4, Bool.and_false]]; rfl) _ _ hP hD hS (lv_sub hl [0, 1, 2, 3, 4, 5] rfl)
            · refine lv_iinc (v := nI (acc + 1)) (lv' := [(3, .int (nI (acc + 1))), (0, .ref h), (1, .int x), (2, .int y), (4, .int (bo true)), (5, .int (nI i))]) hx hb dX1_count_46 hl (k := 3) rfl (nI_1 _) (by decide) rfl (fun ls hl => ?_)
              exact j49 (acc + 1) _ _ (by rw [show selP num x y b0 = true from by rw [selP, hsel, c4]; rfl]; rfl) _ _ hP hD hS (lv_sub hl [1, 2, 3, 0, 4, 5] rfl)
          · have hx9 := hx6.resolve_left c3
            refine lv_aload_n hx hb dX1_count_29 rfl (lv_at hl 0 rfl) ?_
            refine g1_bridges hC hK hP dX1_count_30 ?_
            refine lv_iload_n hx hb dX1_count_33 rfl (lv_at hl 1 rfl) ?_
            refine ct_i (y := nI x.toNatClampNeg) (cl_nI c3) ?_
            refine l1_bridges hC hK hP (hx9) dX1_count_34 ?_
            refine ct_i (y := nI (b0 x.toNatClampNeg)) ((hb0 _ hx9).1) ?_
            refine lv_iload_n hx hb dX1_count_35 rfl (lv_at hl 2 rfl) ?_
            refine lv_icmp_ne (tgt := 49) hx hb dX1_count_36 (by decide) (fun c5 => ?_) (fun c5 => ?_)
            · exact j49 acc _ _ (by rw [show selP num x y b0 = false from by simp [selP, c3, c5]]; rfl) _ _ hP hD hS (lv_sub hl [0, 1, 2, 3, 4, 5] rfl)
            · have hsel : (decide (x < 0) || decide (nI (b0 x.toNatClampNeg) = y)) = true := by simp [c5]
              refine lv_aload_n hx hb dX1_count_39 rfl (lv_at hl 0 rfl) ?_
              refine k_m_solves (num := num) (br := b0) hC hK hP hD hS hA (by decide) hl.1 (Nat.le_of_ble_eq_true rfl) hM hb0 dX1_count_40 (fun r9 re9 H locs hr9 hP hD hS => ?_)
              refine ct_i (y := bo (mSol num b0)) (hr9) ?_
              refine bz_eq (tgt := 49) hx hb dX1_count_43 (by decide) (fun c6 => ?_) (fun c6 => ?_)
              · exact j49 acc _ _ (by rw [show selP num x y b0 = false from by rw [selP, c6, Bool.and_false]]; rfl) _ _ hP hD hS (lv_sub hl [0, 1, 2, 3, 4, 5] rfl)
              · refine lv_iinc (v := nI (acc + 1)) (lv' := [(3, .int (nI (acc + 1))), (0, .ref h), (1, .int x), (2, .int y), (4, .int (bo true)), (5, .int (nI i))]) hx hb dX1_count_46 hl (k := 3) rfl (nI_1 _) (by decide) rfl (fun ls hl => ?_)
                exact j49 (acc + 1) _ _ (by rw [show selP num x y b0 = true from by rw [selP, hsel, c6]; rfl]; rfl) _ _ hP hD hS (lv_sub hl [1, 2, 3, 0, 4, 5] rfl)
  refine lv_aload_n hx hb dX1_count_0 rfl (lv_at hl 0 rfl) ?_
  refine k_m_begin  hC hK hP hD hS hA (by decide) hl.1 (Nat.le_of_ble_eq_true rfl)  dX1_count_1 (fun  H locs _ hP hD hS => ?_)
  refine lv_iconst (v := nI 0) hx hb dX1_count_4 (by decide) ?_
  refine lv_istore_n (lv' := [(3, .int (nI 0)), (0, .ref h), (1, .int x), (2, .int y)]) hx hb dX1_count_5 rfl hl (by decide) rfl (fun ls hl => ?_)
  refine lv_iconst (v := nI 1) hx hb dX1_count_6 (by decide) ?_
  refine ct_i (y := bo true) (rfl) ?_
  refine lv_istore (lv' := [(4, .int (bo true)), (3, .int (nI 0)), (0, .ref h), (1, .int x), (2, .int y)]) hx hb dX1_count_7 hl (by decide) rfl (fun ls hl => ?_)
  refine lv_iconst (v := nI 0) hx hb dX1_count_9 (by decide) ?_
  refine lv_istore (lv' := [(5, .int (nI 0)), (4, .int (bo true)), (3, .int (nI 0)), (0, .ref h), (1, .int x), (2, .int y)]) hx hb dX1_count_10 hl (by decide) rfl (fun ls hl => ?_)
  exact lp 6562 0 0 true zF _ _ _ (by omega) (brI_0 _) hT.symm (by omega) _ _ hP hD hS (lv_sub hl [3, 4, 5, 2, 1, 0] rfl)
theorem k_m_count {p : Program} {l : Launch} {e : Env} {R : Room} {s : State} {m : MethodId} {args : Array Value} {below : List Frame} {meth : Method} {c : Code} {H : Heap} {locs : List Loc} {Q : State → Prop} {cc : ByteArray} {pc nL : Nat} {ls : Array Slot} {rest : List Value} {D : va_G} {A : Nat → Prop} {H0 : Heap} {h : Nat} {a : Nat → Nat} {dI dJ dZ : ClassId} {fNu : Nat → Int32} {fNe : Nat → Int32} {fFa : Nat → Int32} {fBe : Nat → Int64} {fBr : Nat → Int32} {fRe : Nat → Int32} {num : Nat → Nat} {x y : Int32} (hC : CallFix p m c cc nL s args lw_all RX1) (hK : va_K D vwCl (kM dI dJ dZ) s) (hP : va_P D vwCl (mdW h a dI dJ dZ (nI (gL num).length) fNu fNe fFa fBe fBr fRe) H) (hD : va_D A (mdW h a dI dJ dZ (nI (gL num).length) fNu fNe fFa fBe fBr fRe)) (hS : va_S A H0 H locs) (hA : ∀ q, H0.size ≤ q → A q) (hR : rm_m_count.frames + 1 ≤ R.frames ∧ 8 + (6 + 11) + rm_m_count.locals ≤ R.locals) (hl : ls.size = nL) (hW : (rest.map fun v => v.category).sum ≤ 8) (hM : mdI num fNu fNe fFa fBe) (hx6 : x < 0 ∨ x.toNatClampNeg < 16) (hdg : decode cc pc = .ok (.invokevirtual 68, 3)) (kk : ∀ (r : Int32) (br1 : Nat → Int32) (re1 : Nat → Int32) (H1 : Heap) (locs1 : List Loc), (r = nI (ctF (gL num).length (selP num x y) 6561 zF 0)) → va_P D vwCl (mdW h a dI dJ dZ (nI (gL num).length) fNu fNe fFa fBe br1 re1) H1 → va_D A (mdW h a dI dJ dZ (nI (gL num).length) fNu fNe fFa fBe br1 re1) → va_S A H0 H1 locs1 → W p l e R s m args below meth c H1 locs1 0 0 Q (F0 m (pc + 3) ls (.int r :: rest))) : W p l e R s m args below meth c H locs 0 0 Q (F0 m pc ls (.int y :: .int x :: .ref h :: rest)) := km_i hC (t_m_count l D h a dI dJ dZ fNu fNe fFa fBe fBr fRe num x y hM hx6 H.size) (cwV 2 hC.2.2.2.2 (lw_V q263 q265 qs16 q25 q266) rfl rfl rfl (by decide +kernel) hR) rfl rfl rfl hl rfl hW ⟨Nat.zero_le _, Nat.zero_le _⟩ hP hK hD hS hA hdg (fun r u H1 locs1 a1 a2 a3 a4 => kk r u.1 u.2 H1 locs1 a1 a2 a3 a4)
end
section
/-! BridgeBoardModel: public methods -/
abbrev rm_m_place : Room := { frames := 1, cells := 0, slots := 0, locals := 22 }
set_option maxHeartbeats 4000000 in
set_option maxRecDepth 100000 in
/-- place -/
theorem t_m_place (l : Launch) (D : va_G) (h : Nat) (a : Nat → Nat) (dI dJ dZ : ClassId) (vGa : Int32) (fNu : Nat → Int32) (fNe : Nat → Int32) (fFa : Nat → Int32) (fBe : Nat → Int64) (fBr : Nat → Int32) (fRe : Nat → Int32) (num : Nat → Nat) (x y z : Int32) (hB : MDok num fNu) (sz : Nat) : Met l yX1_place (ws_ yX1_place cX1_place 4 (some .int)) rm_m_place (cP D (kM dI dJ dZ) (mdW h a dI dJ dZ vGa fNu fNe fFa fBe fBr fRe) sz [.ref h, .int x, .int y, .int z]) (cQi D (kM dI dJ dZ) (mdW h a dI dJ dZ vGa fNu fNe fFa fBe fBr fRe) sz (fun (r : Int32) (u : (Int32) × (Nat → Int32) × (Nat → Int32) × (Nat → Int32) × (Nat → Int64) × (Nat → Int32) × (Nat → Int32)) => MDok (nuP num x y z) u.2.1 ∧ r = rsP num x y z) (fun (u : (Int32) × (Nat → Int32) × (Nat → Int32) × (Nat → Int32) × (Nat → Int64) × (Nat → Int32) × (Nat → Int32)) => mdW h a dI dJ dZ u.1 u.2.1 u.2.2.1 u.2.2.2.1 u.2.2.2.2.1 u.2.2.2.2.2.1 u.2.2.2.2.2.2)) 0 0 (va_A (mdW h a dI dJ dZ vGa fNu fNe fFa fBe fBr fRe) sz) := by
  refine en_i (by decide) (Nat.le_of_ble_eq_true rfl) ?_
  intro p e s m below meth c ls Q A hC hP hK hD hA hS hl hret
  have hC : CallFix p m c cX1_place 4 s _ lw_all RX1 := hC
  have hx := hC.1
  have hb := hC.2.1
  have hl : lv_has ls 4 [(0, .ref h), (1, .int x), (2, .int y), (3, .int z)] := hl
  obtain ⟨hnu, h7⟩ := hB
  have h14 := gL_len h7
  refine lv_iload_n hx hb dX1_place_0 rfl (lv_at hl 1 rfl) ?_
  refine lv_iload_n hx hb dX1_place_1 rfl (lv_at hl 2 rfl) ?_
  refine k_m_off  hC hK (by decide) hl.1 (Nat.le_of_ble_eq_true rfl)  dX1_place_2 ?_
  refine bz_ne (tgt := 19) hx hb dX1_place_5 (by decide) (fun c1 => ?_) (fun c1 => ?_)
  · refine lv_iconst (v := (-1)) hx hb dX1_place_19 (by decide) ?_
    exact hret _ _ 20 _ _ (vGa, fNu, fNe, fFa, fBe, fBr, fRe) dX1_place_20 (by rw [(rsP_f (okP_f1 (by cases hq : onb x y with | false => rfl | true => rw [hq] at c1; cases c1))).1, (rsP_f (okP_f1 (by cases hq : onb x y with | false => rfl | true => rw [hq] at c1; cases c1))).2]; exact ⟨⟨hnu, h7⟩, rfl⟩) hP hD hS
  · have h : onb x y = true := by cases hq : onb x y with | true => rfl | false => rw [hq] at c1; cases c1
    refine lv_iload_n hx hb dX1_place_8 rfl (lv_at hl 3 rfl) ?_
    refine lv_iconst (v := nI 1) hx hb dX1_place_9 (by decide) ?_
    refine lv_icmp_lt (tgt := 19) hx hb dX1_place_10 (by decide) (fun c2 => ?_) (fun c2 => ?_)
    · refine lv_iconst (v := (-1)) hx hb dX1_place_19 (by decide) ?_
      exact hret _ _ 20 _ _ (vGa, fNu, fNe, fFa, fBe, fBr, fRe) dX1_place_20 (by rw [(rsP_f (okP_f2 c2)).1, (rsP_f (okP_f2 c2)).2]; exact ⟨⟨hnu, h7⟩, rfl⟩) hP hD hS
    · refine lv_iload_n hx hb dX1_place_13 rfl (lv_at hl 3 rfl) ?_
      refine lv_bipush (v := nI 8) hx hb dX1_place_14 (by decide) ?_
      refine lv_icmp_le (tgt := 21) hx hb dX1_place_16 (by decide) (fun c3 => ?_) (fun c3 => ?_)
      · obtain ⟨r0, q0, hr0, hq0, rfl, rfl⟩ := onb_spec h
        obtain ⟨k0, hk0, rfl⟩ := nI_of (x := z) (fun q => c2 (Int32.lt_of_lt_of_le q (by decide)))
        have hk1 : 1 ≤ k0 := Nat.not_lt.mp (fun q => c2 ((nI_ltI hk0 (by decide)).mpr q))
        have hk8 : k0 ≤ 8 := (nI_leI hk0 (by decide)).mp c3
        have hcc : 6 * r0 + q0 < 36 := by omega
        have hn8 := (hnu (6 * r0 + q0) hcc).2
        refine lv_aload_n hx hb dX1_place_21 rfl (lv_at hl 0 rfl) ?_
        refine g1_number hC hK hP dX1_place_22 ?_
        refine lv_bipush (v := nI 6) hx hb dX1_place_25 (by decide) ?_
        refine lv_iload_n hx hb dX1_place_27 rfl (lv_at hl 1 rfl) ?_
        refine nn_mul hx hb dX1_place_28 ?_
        refine lv_iload_n hx hb dX1_place_29 rfl (lv_at hl 2 rfl) ?_
        refine nn_add hx hb dX1_place_30 ?_
        refine l1_number hC hK hP (by omega) dX1_place_31 ?_
        refine ct_i (y := nI (num (6 * r0 + q0))) ((hnu (6 * r0 + q0) hcc).1) ?_
        refine nz_ne (tgt := 46) hx hb dX1_place_32 (by decide) (by omega) (fun c4 => ?_) (fun c4 => ?_)
        · have erk : rk (setN num (6 * r0 + q0) k0) 36 = rk num 36 := rk_pset hcc hk1 (by omega)
          have h71 : rk (setN num (6 * r0 + q0) k0) 36 ≤ 7 := by omega
          refine lv_aload_n hx hb dX1_place_46 rfl (lv_at hl 0 rfl) ?_
          refine g1_number hC hK hP dX1_place_47 ?_
          refine lv_bipush (v := nI 6) hx hb dX1_place_50 (by decide) ?_
          refine lv_iload_n hx hb dX1_place_52 rfl (lv_at hl 1 rfl) ?_
          refine nn_mul hx hb dX1_place_53 ?_
          refine lv_iload_n hx hb dX1_place_54 rfl (lv_at hl 2 rfl) ?_
          refine nn_add hx hb dX1_place_55 ?_
          refine lv_iload_n hx hb dX1_place_56 rfl (lv_at hl 3 rfl) ?_
          refine s1_number hC hK hP hD hS (by omega) dX1_place_57 (fun H locs hP hD hS => ?_)
          refine lv_aload_n hx hb dX1_place_58 rfl (lv_at hl 0 rfl) ?_
          refine k_m_held (num := (setN num (6 * r0 + q0) k0)) hC hK hP (by decide) hl.1 (Nat.le_of_ble_eq_true rfl) (nu_set hnu hk8) dX1_place_59 ?_
          obtain ⟨e1, e2⟩ := rsP_t (num := num) hr0 hq0 hk1 hk8 (Or.inl (by omega))
          exact hret _ _ 62 _ _ (vGa, upd fNu ((6 * r0) + q0) (nI k0), fNe, fFa, fBe, fBr, fRe) dX1_place_62 (by rw [e1, e2]; exact ⟨⟨nu_set hnu hk8, h71⟩, rfl⟩) hP hD hS
        · refine lv_aload_n hx hb dX1_place_35 rfl (lv_at hl 0 rfl) ?_
          refine k_m_held (num := num) hC hK hP (by decide) hl.1 (Nat.le_of_ble_eq_true rfl) hnu dX1_place_36 ?_
          refine lv_bipush (v := nI 7) hx hb dX1_place_39 (by decide) ?_
          refine nb_ne (tgt := 46) hx hb dX1_place_41 (by decide) (by omega) (by omega) (fun c5 => ?_) (fun c5 => ?_)
          · have erk : rk (setN num (6 * r0 + q0) k0) 36 = rk num 36 + 1 := rk_pnew hcc hk1 c4
            have h71 : rk (setN num (6 * r0 + q0) k0) 36 ≤ 7 := by omega
            refine lv_aload_n hx hb dX1_place_46 rfl (lv_at hl 0 rfl) ?_
            refine g1_number hC hK hP dX1_place_47 ?_
            refine lv_bipush (v := nI 6) hx hb dX1_place_50 (by decide) ?_
            refine lv_iload_n hx hb dX1_place_52 rfl (lv_at hl 1 rfl) ?_
            refine nn_mul hx hb dX1_place_53 ?_
            refine lv_iload_n hx hb dX1_place_54 rfl (lv_at hl 2 rfl) ?_
            refine nn_add hx hb dX1_place_55 ?_
            refine lv_iload_n hx hb dX1_place_56 rfl (lv_at hl 3 rfl) ?_
            refine s1_number hC hK hP hD hS (by omega) dX1_place_57 (fun H locs hP hD hS => ?_)
            refine lv_aload_n hx hb dX1_place_58 rfl (lv_at hl 0 rfl) ?_
            refine k_m_held (num := (setN num (6 * r0 + q0) k0)) hC hK hP (by decide) hl.1 (Nat.le_of_ble_eq_true rfl) (nu_set hnu hk8) dX1_place_59 ?_
            obtain ⟨e1, e2⟩ := rsP_t (num := num) hr0 hq0 hk1 hk8 (Or.inr (by omega))
            exact hret _ _ 62 _ _ (vGa, upd fNu ((6 * r0) + q0) (nI k0), fNe, fFa, fBe, fBr, fRe) dX1_place_62 (by rw [e1, e2]; exact ⟨⟨nu_set hnu hk8, h71⟩, rfl⟩) hP hD hS
          · refine lv_iconst (v := (-1)) hx hb dX1_place_44 (by decide) ?_
            exact hret _ _ 45 _ _ (vGa, fNu, fNe, fFa, fBe, fBr, fRe) dX1_place_45 (by rw [(rsP_f (by rw [okP_v hr0 hq0 hk1 hk8]; simp [c4]; omega)).1, (rsP_f (by rw [okP_v hr0 hq0 hk1 hk8]; simp [c4]; omega)).2]; exact ⟨⟨hnu, h7⟩, rfl⟩) hP hD hS
      · refine lv_iconst (v := (-1)) hx hb dX1_place_19 (by decide) ?_
        exact hret _ _ 20 _ _ (vGa, fNu, fNe, fFa, fBe, fBr, fRe) dX1_place_20 (by rw [(rsP_f (okP_f3 c3)).1, (rsP_f (okP_f3 c3)).2]; exact ⟨⟨hnu, h7⟩, rfl⟩) hP hD hS
abbrev rm_m_remove : Room := { frames := 1, cells := 0, slots := 0, locals := 22 }
set_option maxHeartbeats 4000000 in
set_option maxRecDepth 100000 in
/-- remove -/
theorem t_m_remove (l : Launch) (D : va_G) (h : Nat) (a : Nat → Nat) (dI dJ dZ : ClassId) (vGa : Int32) (fNu : Nat → Int32) (fNe : Nat → Int32) (fFa : Nat → Int32) (fBe : Nat → Int64) (fBr : Nat → Int32) (fRe : Nat → Int32) (num : Nat → Nat) (x y : Int32) (hB : MDok num fNu) (sz : Nat) : Met l yX1_remove (ws_ yX1_remove cX1_remove 3 (some .int)) rm_m_remove (cP D (kM dI dJ dZ) (mdW h a dI dJ dZ vGa fNu fNe fFa fBe fBr fRe) sz [.ref h, .int x, .int y]) (cQi D (kM dI dJ dZ) (mdW h a dI dJ dZ vGa fNu fNe fFa fBe fBr fRe) sz (fun (r : Int32) (u : (Int32) × (Nat → Int32) × (Nat → Int32) × (Nat → Int32) × (Nat → Int64) × (Nat → Int32) × (Nat → Int32)) => MDok (nuR num x y) u.2.1 ∧ r = rsR num x y) (fun (u : (Int32) × (Nat → Int32) × (Nat → Int32) × (Nat → Int32) × (Nat → Int64) × (Nat → Int32) × (Nat → Int32)) => mdW h a dI dJ dZ u.1 u.2.1 u.2.2.1 u.2.2.2.1 u.2.2.2.2.1 u.2.2.2.2.2.1 u.2.2.2.2.2.2)) 0 0 (va_A (mdW h a dI dJ dZ vGa fNu fNe fFa fBe fBr fRe) sz) := by
  refine en_i (by decide) (Nat.le_of_ble_eq_true rfl) ?_
  intro p e s m below meth c ls Q A hC hP hK hD hA hS hl hret
  have hC : CallFix p m c cX1_remove 3 s _ lw_all RX1 := hC
  have hx := hC.1
  have hb := hC.2.1
  have hl : lv_has ls 3 [(0, .ref h), (1, .int x), (2, .int y)] := hl
  obtain ⟨hnu, h7⟩ := hB
  have h14 := gL_len h7
  refine lv_iload_n hx hb dX1_remove_0 rfl (lv_at hl 1 rfl) ?_
  refine lv_iload_n hx hb dX1_remove_1 rfl (lv_at hl 2 rfl) ?_
  refine k_m_off  hC hK (by decide) hl.1 (Nat.le_of_ble_eq_true rfl)  dX1_remove_2 ?_
  refine bz_ne (tgt := 22) hx hb dX1_remove_5 (by decide) (fun c1 => ?_) (fun c1 => ?_)
  · have h : onb x y = false := by cases hq : onb x y with | false => rfl | true => rw [hq] at c1; cases c1
    refine lv_iconst (v := (-1)) hx hb dX1_remove_22 (by decide) ?_
    exact hret _ _ 23 _ _ (vGa, fNu, fNe, fFa, fBe, fBr, fRe) dX1_remove_23 (by rw [(rsR_f (by simp [okR, h])).1, (rsR_f (by simp [okR, h])).2]; exact ⟨⟨hnu, h7⟩, rfl⟩) hP hD hS
  · have h : onb x y = true := by cases hq : onb x y with | true => rfl | false => rw [hq] at c1; cases c1
    obtain ⟨r0, q0, hr0, hq0, rfl, rfl⟩ := onb_spec h
    have hcc : 6 * r0 + q0 < 36 := by omega
    have hn8 := (hnu (6 * r0 + q0) hcc).2
    refine lv_aload_n hx hb dX1_remove_8 rfl (lv_at hl 0 rfl) ?_
    refine g1_number hC hK hP dX1_remove_9 ?_
    refine lv_bipush (v := nI 6) hx hb dX1_remove_12 (by decide) ?_
    refine lv_iload_n hx hb dX1_remove_14 rfl (lv_at hl 1 rfl) ?_
    refine nn_mul hx hb dX1_remove_15 ?_
    refine lv_iload_n hx hb dX1_remove_16 rfl (lv_at hl 2 rfl) ?_
    refine nn_add hx hb dX1_remove_17 ?_
    refine l1_number hC hK hP (by omega) dX1_remove_18 ?_
    refine ct_i (y := nI (num (6 * r0 + q0))) ((hnu (6 * r0 + q0) hcc).1) ?_
    refine nz_ne (tgt := 24) hx hb dX1_remove_19 (by decide) (by omega) (fun c2 => ?_) (fun c2 => ?_)
    · have hpos : 0 < num (6 * r0 + q0) := by omega
      have erk := rk_prem hcc hpos
      have h71 : rk (setN num (6 * r0 + q0) 0) 36 ≤ 7 := by omega
      refine lv_aload_n hx hb dX1_remove_24 rfl (lv_at hl 0 rfl) ?_
      refine g1_number hC hK hP dX1_remove_25 ?_
      refine lv_bipush (v := nI 6) hx hb dX1_remove_28 (by decide) ?_
      refine lv_iload_n hx hb dX1_remove_30 rfl (lv_at hl 1 rfl) ?_
      refine nn_mul hx hb dX1_remove_31 ?_
      refine lv_iload_n hx hb dX1_remove_32 rfl (lv_at hl 2 rfl) ?_
      refine nn_add hx hb dX1_remove_33 ?_
      refine lv_iconst (v := nI 0) hx hb dX1_remove_34 (by decide) ?_
      refine s1_number hC hK hP hD hS (by omega) dX1_remove_35 (fun H locs hP hD hS => ?_)
      refine lv_aload_n hx hb dX1_remove_36 rfl (lv_at hl 0 rfl) ?_
      refine k_m_held (num := (setN num (6 * r0 + q0) 0)) hC hK hP (by decide) hl.1 (Nat.le_of_ble_eq_true rfl) (nu_set hnu (by omega)) dX1_remove_37 ?_
      obtain ⟨e1, e2⟩ := rsR_t (num := num) hr0 hq0 hpos
      exact hret _ _ 40 _ _ (vGa, upd fNu ((6 * r0) + q0) (nI 0), fNe, fFa, fBe, fBr, fRe) dX1_remove_40 (by rw [e1, e2]; exact ⟨⟨nu_set hnu (by omega), h71⟩, rfl⟩) hP hD hS
    · refine lv_iconst (v := (-1)) hx hb dX1_remove_22 (by decide) ?_
      exact hret _ _ 23 _ _ (vGa, fNu, fNe, fFa, fBe, fBr, fRe) dX1_remove_23 (by rw [(rsR_f (by rw [okR_v hr0 hq0]; simp [c2])).1, (rsR_f (by rw [okR_v hr0 hq0]; simp [c2])).2]; exact ⟨⟨hnu, h7⟩, rfl⟩) hP hD hS
abbrev rm_m_island : Room := { frames := 1, cells := 0, slots := 0, locals := 21 }
set_option maxHeartbeats 4000000 in
set_option maxRecDepth 100000 in
/-- island -/
theorem t_m_island (l : Launch) (D : va_G) (h : Nat) (a : Nat → Nat) (dI dJ dZ : ClassId) (vGa : Int32) (fNu : Nat → Int32) (fNe : Nat → Int32) (fFa : Nat → Int32) (fBe : Nat → Int64) (fBr : Nat → Int32) (fRe : Nat → Int32) (num : Nat → Nat) (x y : Int32) (hB : MDok num fNu) : Met l yX1_island (ws_ yX1_island cX1_island 3 (some .int)) rm_m_island (rP D (kM dI dJ dZ) (mdW h a dI dJ dZ vGa fNu fNe fFa fBe fBr fRe) [.ref h, .int x, .int y]) (QcRead (rsI num x y)) 0 0 (fun _ => False) := by
  refine en_ri (by decide) (Nat.le_of_ble_eq_true rfl) ?_
  intro p e s m below meth c ls Q hC hP hK hl hret
  have hC : CallFix p m c cX1_island 3 s _ lw_all RX1 := hC
  have hx := hC.1
  have hb := hC.2.1
  have hl : lv_has ls 3 [(0, .ref h), (1, .int x), (2, .int y)] := hl
  obtain ⟨hnu, h7⟩ := hB
  have h14 := gL_len h7
  refine lv_iload_n hx hb dX1_island_0 rfl (lv_at hl 1 rfl) ?_
  refine lv_iload_n hx hb dX1_island_1 rfl (lv_at hl 2 rfl) ?_
  refine k_m_off  hC hK (by decide) hl.1 (Nat.le_of_ble_eq_true rfl)  dX1_island_2 ?_
  refine bz_eq (tgt := 12) hx hb dX1_island_5 (by decide) (fun c1 => ?_) (fun c1 => ?_)
  · have h : onb x y = true := by cases hq : onb x y with | true => rfl | false => rw [hq] at c1; cases c1
    obtain ⟨r0, q0, hr0, hq0, rfl, rfl⟩ := onb_spec h
    have hcc : 6 * r0 + q0 < 36 := by omega
    refine lv_aload_n hx hb dX1_island_12 rfl (lv_at hl 0 rfl) ?_
    refine g1_number hC hK hP dX1_island_13 ?_
    refine lv_bipush (v := nI 6) hx hb dX1_island_16 (by decide) ?_
    refine lv_iload_n hx hb dX1_island_18 rfl (lv_at hl 1 rfl) ?_
    refine nn_mul hx hb dX1_island_19 ?_
    refine lv_iload_n hx hb dX1_island_20 rfl (lv_at hl 2 rfl) ?_
    refine nn_add hx hb dX1_island_21 ?_
    refine l1_number hC hK hP (by omega) dX1_island_22 ?_
    refine ct_i (y := nI (num (6 * r0 + q0))) ((hnu (6 * r0 + q0) hcc).1) ?_
    exact hret 23 _ _ dX1_island_23 (by rw [rsI, h, if_pos rfl, cel_nI hr0 hq0])
  · have h : onb x y = false := by cases hq : onb x y with | false => rfl | true => rw [hq] at c1; cases c1
    refine lv_iconst (v := (-1)) hx hb dX1_island_8 (by decide) ?_
    refine lv_goto (tgt := 23) hx hb dX1_island_9 (by decide) ?_
    exact hret 23 _ _ dX1_island_23 (by rw [rsI, h]; rfl)
abbrev rm_m_gaps : Room := { frames := 2, cells := 0, slots := 0, locals := 48 }
set_option maxHeartbeats 4000000 in
set_option maxRecDepth 100000 in
/-- gaps -/
theorem t_m_gaps (l : Launch) (D : va_G) (h : Nat) (a : Nat → Nat) (dI dJ dZ : ClassId) (vGa : Int32) (fNu : Nat → Int32) (fNe : Nat → Int32) (fFa : Nat → Int32) (fBe : Nat → Int64) (fBr : Nat → Int32) (fRe : Nat → Int32) (num : Nat → Nat) (hB : MDok num fNu) (sz : Nat) : Met l yX1_gaps (ws_ yX1_gaps cX1_gaps 1 (some .int)) rm_m_gaps (cP D (kM dI dJ dZ) (mdW h a dI dJ dZ vGa fNu fNe fFa fBe fBr fRe) sz [.ref h]) (cQi D (kM dI dJ dZ) (mdW h a dI dJ dZ vGa fNu fNe fFa fBe fBr fRe) sz (fun (r : Int32) (u : (Int32) × (Nat → Int32) × (Nat → Int32) × (Nat → Int32) × (Nat → Int64) × (Nat → Int32) × (Nat → Int32)) => MDok (num) u.2.1 ∧ r = nI (gL num).length) (fun (u : (Int32) × (Nat → Int32) × (Nat → Int32) × (Nat → Int32) × (Nat → Int64) × (Nat → Int32) × (Nat → Int32)) => mdW h a dI dJ dZ u.1 u.2.1 u.2.2.1 u.2.2.2.1 u.2.2.2.2.1 u.2.2.2.2.2.1 u.2.2.2.2.2.2)) 0 0 (va_A (mdW h a dI dJ dZ vGa fNu fNe fFa fBe fBr fRe) sz) := by
  refine en_i (by decide) (Nat.le_of_ble_eq_true rfl) ?_
  intro p e s m below meth c ls Q A hC hP hK hD hA hS hl hret
  have hC : CallFix p m c cX1_gaps 1 s _ lw_all RX1 := hC
  have hx := hC.1
  have hb := hC.2.1
  have hl : lv_has ls 1 [(0, .ref h)] := hl
  obtain ⟨hnu, h7⟩ := hB
  have h14 := gL_len h7
  refine lv_aload_n hx hb dX1_gaps_0 rfl (lv_at hl 0 rfl) ?_
  refine k_m_survey (num := num) hC hK hP hD hS hA (by decide) hl.1 (Nat.le_of_ble_eq_true rfl) hnu h7 dX1_gaps_1 (fun ne9 fa9 be9 H locs hM hP hD hS => ?_)
  refine lv_aload_n hx hb dX1_gaps_4 rfl (lv_at hl 0 rfl) ?_
  refine g1_gaps hC hK hP dX1_gaps_5 ?_
  exact hret _ _ 8 _ _ (nI (gL num).length, fNu, ne9, fa9, be9, fBr, fRe) dX1_gaps_8 (⟨⟨hnu, h7⟩, rfl⟩) hP hD hS
abbrev rm_m_end : Room := { frames := 2, cells := 0, slots := 0, locals := 48 }
set_option maxHeartbeats 4000000 in
set_option maxRecDepth 100000 in
/-- end -/
theorem t_m_end (l : Launch) (D : va_G) (h : Nat) (a : Nat → Nat) (dI dJ dZ : ClassId) (vGa : Int32) (fNu : Nat → Int32) (fNe : Nat → Int32) (fFa : Nat → Int32) (fBe : Nat → Int64) (fBr : Nat → Int32) (fRe : Nat → Int32) (num : Nat → Nat) (x : Int32) (fb : Bool) (hB : MDok num fNu) (sz : Nat) : Met l yX1_end (ws_ yX1_end cX1_end 3 (some .int)) rm_m_end (cP D (kM dI dJ dZ) (mdW h a dI dJ dZ vGa fNu fNe fFa fBe fBr fRe) sz [.ref h, .int x, .int (bo fb)]) (cQi D (kM dI dJ dZ) (mdW h a dI dJ dZ vGa fNu fNe fFa fBe fBr fRe) sz (fun (r : Int32) (u : (Int32) × (Nat → Int32) × (Nat → Int32) × (Nat → Int32) × (Nat → Int64) × (Nat → Int32) × (Nat → Int32)) => MDok (num) u.2.1 ∧ r = rsE num x fb) (fun (u : (Int32) × (Nat → Int32) × (Nat → Int32) × (Nat → Int32) × (Nat → Int64) × (Nat → Int32) × (Nat → Int32)) => mdW h a dI dJ dZ u.1 u.2.1 u.2.2.1 u.2.2.2.1 u.2.2.2.2.1 u.2.2.2.2.2.1 u.2.2.2.2.2.2)) 0 0 (va_A (mdW h a dI dJ dZ vGa fNu fNe fFa fBe fBr fRe) sz) := by
  refine en_i (by decide) (Nat.le_of_ble_eq_true rfl) ?_
  intro p e s m below meth c ls Q A hC hP hK hD hA hS hl hret
  have hC : CallFix p m c cX1_end 3 s _ lw_all RX1 := hC
  have hx := hC.1
  have hb := hC.2.1
  have hl : lv_has ls 3 [(0, .ref h), (1, .int x), (2, .int (bo fb))] := hl
  obtain ⟨hnu, h7⟩ := hB
  have h14 := gL_len h7
  refine lv_aload_n hx hb dX1_end_0 rfl (lv_at hl 0 rfl) ?_
  refine k_m_survey (num := num) hC hK hP hD hS hA (by decide) hl.1 (Nat.le_of_ble_eq_true rfl) hnu h7 dX1_end_1 (fun ne9 fa9 be9 H locs hM hP hD hS => ?_)
  refine lv_iload_n hx hb dX1_end_4 rfl (lv_at hl 1 rfl) ?_
  refine lv_if_lt (tgt := 16) hx hb dX1_end_5 (by decide) (fun c1 => ?_) (fun c1 => ?_)
  · refine lv_iconst (v := (-1)) hx hb dX1_end_16 (by decide) ?_
    exact hret _ _ 17 _ _ (nI (gL num).length, fNu, ne9, fa9, be9, fBr, fRe) dX1_end_17 (⟨⟨hnu, h7⟩, by rw [rsE, if_pos c1]⟩) hP hD hS
  · obtain ⟨j0, hj0, rfl⟩ := nI_of c1
    refine lv_iload_n hx hb dX1_end_8 rfl (lv_at hl 1 rfl) ?_
    refine lv_aload_n hx hb dX1_end_9 rfl (lv_at hl 0 rfl) ?_
    refine g1_gaps hC hK hP dX1_end_10 ?_
    refine nb_lt (tgt := 18) hx hb dX1_end_13 (by decide) (by omega) (by omega) (fun c2 => ?_) (fun c2 => ?_)
    · obtain ⟨b1, b2, b3⟩ := hM.2.2 j0 _ (gL_at c2)
      have e0 : rsE num (nI j0) fb = nI (if fb then frC num j0 else nrC num j0) := by rw [rsE, if_neg c1, nI_clamp hj0, if_neg (by omega)]
      refine lv_iload_n hx hb dX1_end_18 rfl (lv_at hl 2 rfl) ?_
      refine bz_eq (tgt := 31) hx hb dX1_end_19 (by decide) (fun c3 => ?_) (fun c3 => ?_)
      · refine lv_aload_n hx hb dX1_end_31 rfl (lv_at hl 0 rfl) ?_
        refine g1_near hC hK hP dX1_end_32 ?_
        refine lv_iload_n hx hb dX1_end_35 rfl (lv_at hl 1 rfl) ?_
        refine l1_near hC hK hP (by omega) dX1_end_36 ?_
        refine ct_i (y := nI (nrC num j0)) (b1) ?_
        exact hret _ _ 37 _ _ (nI (gL num).length, fNu, ne9, fa9, be9, fBr, fRe) dX1_end_37 (⟨⟨hnu, h7⟩, by rw [e0, c3]; rfl⟩) hP hD hS
      · refine lv_aload_n hx hb dX1_end_22 rfl (lv_at hl 0 rfl) ?_
        refine g1_far hC hK hP dX1_end_23 ?_
        refine lv_iload_n hx hb dX1_end_26 rfl (lv_at hl 1 rfl) ?_
        refine l1_far hC hK hP (by omega) dX1_end_27 ?_
        refine ct_i (y := nI (frC num j0)) (b2) ?_
        refine lv_goto (tgt := 37) hx hb dX1_end_28 (by decide) ?_
        exact hret _ _ 37 _ _ (nI (gL num).length, fNu, ne9, fa9, be9, fBr, fRe) dX1_end_37 (⟨⟨hnu, h7⟩, by rw [e0, c3]; rfl⟩) hP hD hS
    · refine lv_iconst (v := (-1)) hx hb dX1_end_16 (by decide) ?_
      exact hret _ _ 17 _ _ (nI (gL num).length, fNu, ne9, fa9, be9, fBr, fRe) dX1_end_17 (⟨⟨hnu, h7⟩, by rw [rsE, if_neg c1, nI_clamp hj0, if_pos c2]⟩) hP hD hS
abbrev rm_m_solutions : Room := { frames := 3, cells := 0, slots := 0, locals := 68 }
set_option maxHeartbeats 4000000 in
set_option maxRecDepth 100000 in
/-- solutions -/
theorem t_m_solutions (l : Launch) (D : va_G) (h : Nat) (a : Nat → Nat) (dI dJ dZ : ClassId) (vGa : Int32) (fNu : Nat → Int32) (fNe : Nat → Int32) (fFa : Nat → Int32) (fBe : Nat → Int64) (fBr : Nat → Int32) (fRe : Nat → Int32) (num : Nat → Nat) (hB : MDok num fNu) (sz : Nat) : Met l yX1_solutions (ws_ yX1_solutions cX1_solutions 1 (some .int)) rm_m_solutions (cP D (kM dI dJ dZ) (mdW h a dI dJ dZ vGa fNu fNe fFa fBe fBr fRe) sz [.ref h]) (cQi D (kM dI dJ dZ) (mdW h a dI dJ dZ vGa fNu fNe fFa fBe fBr fRe) sz (fun (r : Int32) (u : (Int32) × (Nat → Int32) × (Nat → Int32) × (Nat → Int32) × (Nat → Int64) × (Nat → Int32) × (Nat → Int32)) => MDok (num) u.2.1 ∧ r = rsS num) (fun (u : (Int32) × (Nat → Int32) × (Nat → Int32) × (Nat → Int32) × (Nat → Int64) × (Nat → Int32) × (Nat → Int32)) => mdW h a dI dJ dZ u.1 u.2.1 u.2.2.1 u.2.2.2.1 u.2.2.2.2.1 u.2.2.2.2.2.1 u.2.2.2.2.2.2)) 0 0 (va_A (mdW h a dI dJ dZ vGa fNu fNe fFa fBe fBr fRe) sz) := by
  refine en_i (by decide) (Nat.le_of_ble_eq_true rfl) ?_
  intro p e s m below meth c ls Q A hC hP hK hD hA hS hl hret
  have hC : CallFix p m c cX1_solutions 1 s _ lw_all RX1 := hC
  have hx := hC.1
  have hb := hC.2.1
  have hl : lv_has ls 1 [(0, .ref h)] := hl
  obtain ⟨hnu, h7⟩ := hB
  have h14 := gL_len h7
  refine lv_aload_n hx hb dX1_solutions_0 rfl (lv_at hl 0 rfl) ?_
  refine k_m_survey (num := num) hC hK hP hD hS hA (by decide) hl.1 (Nat.le_of_ble_eq_true rfl) hnu h7 dX1_solutions_1 (fun ne9 fa9 be9 H locs hM hP hD hS => ?_)
  refine lv_aload_n hx hb dX1_solutions_4 rfl (lv_at hl 0 rfl) ?_
  refine g1_gaps hC hK hP dX1_solutions_5 ?_
  refine lv_bipush (v := nI 8) hx hb dX1_solutions_8 (by decide) ?_
  refine nb_le (tgt := 18) hx hb dX1_solutions_10 (by decide) (by omega) (by omega) (fun c1 => ?_) (fun c1 => ?_)
  · refine lv_aload_n hx hb dX1_solutions_18 rfl (lv_at hl 0 rfl) ?_
    refine lv_iconst (v := (-1)) hx hb dX1_solutions_19 (by decide) ?_
    refine lv_iconst (v := nI 0) hx hb dX1_solutions_20 (by decide) ?_
    refine k_m_count (num := num) (x := (-1)) (y := nI 0) hC hK hP hD hS hA (by decide) hl.1 (Nat.le_of_ble_eq_true rfl) hM (Or.inl (by decide)) dX1_solutions_21 (fun r1 br1 re1 H locs hct1 hP hD hS => ?_)
    refine ct_i (y := nI ((sols num).length)) (hct1.trans (congrArg nI (ct_all c1 _))) ?_
    exact hret _ _ 24 _ _ (nI (gL num).length, fNu, ne9, fa9, be9, br1, re1) dX1_solutions_24 (⟨⟨hnu, h7⟩, (if_neg (by omega)).symm⟩) hP hD hS
  · refine lv_bipush (v := (-2)) hx hb dX1_solutions_13 (by decide) ?_
    refine lv_goto (tgt := 24) hx hb dX1_solutions_15 (by decide) ?_
    exact hret _ _ 24 _ _ (nI (gL num).length, fNu, ne9, fa9, be9, fBr, fRe) dX1_solutions_24 (⟨⟨hnu, h7⟩, (if_pos c1).symm⟩) hP hD hS
abbrev rm_m_least : Room := { frames := 2, cells := 0, slots := 0, locals := 48 }
set_option maxHeartbeats 4000000 in
set_option maxRecDepth 100000 in
/-- least -/
theorem t_m_least (l : Launch) (D : va_G) (h : Nat) (a : Nat → Nat) (dI dJ dZ : ClassId) (vGa : Int32) (fNu : Nat → Int32) (fNe : Nat → Int32) (fFa : Nat → Int32) (fBe : Nat → Int64) (fBr : Nat → Int32) (fRe : Nat → Int32) (num : Nat → Nat) (x : Int32) (hB : MDok num fNu) (sz : Nat) : Met l yX1_least (ws_ yX1_least cX1_least 4 (some .int)) rm_m_least (cP D (kM dI dJ dZ) (mdW h a dI dJ dZ vGa fNu fNe fFa fBe fBr fRe) sz [.ref h, .int x]) (cQi D (kM dI dJ dZ) (mdW h a dI dJ dZ vGa fNu fNe fFa fBe fBr fRe) sz (fun (r : Int32) (u : (Int32) × (Nat → Int32) × (Nat → Int32) × (Nat → Int32) × (Nat → Int64) × (Nat → Int32) × (Nat → Int32)) => MDok (num) u.2.1 ∧ r = rsL num x) (fun (u : (Int32) × (Nat → Int32) × (Nat → Int32) × (Nat → Int32) × (Nat → Int64) × (Nat → Int32) × (Nat → Int32)) => mdW h a dI dJ dZ u.1 u.2.1 u.2.2.1 u.2.2.2.1 u.2.2.2.2.1 u.2.2.2.2.2.1 u.2.2.2.2.2.2)) 0 0 (va_A (mdW h a dI dJ dZ vGa fNu fNe fFa fBe fBr fRe) sz) := by
  refine en_i (by decide) (Nat.le_of_ble_eq_true rfl) ?_
  intro p e s m below meth c ls Q A hC hP hK hD hA hS hl hret
  have hC : CallFix p m c cX1_least 4 s _ lw_all RX1 := hC
  have hx := hC.1
  have hb := hC.2.1
  have hl : lv_has ls 4 [(0, .ref h), (1, .int x)] := hl
  obtain ⟨hnu, h7⟩ := hB
  have h14 := gL_len h7
  refine lv_aload_n hx hb dX1_least_0 rfl (lv_at hl 0 rfl) ?_
  refine k_m_survey (num := num) hC hK hP hD hS hA (by decide) hl.1 (Nat.le_of_ble_eq_true rfl) hnu h7 dX1_least_1 (fun ne9 fa9 be9 H locs hM hP hD hS => ?_)
  refine lv_aload_n hx hb dX1_least_4 rfl (lv_at hl 0 rfl) ?_
  refine g1_gaps hC hK hP dX1_least_5 ?_
  refine lv_bipush (v := nI 8) hx hb dX1_least_8 (by decide) ?_
  refine nb_le (tgt := 16) hx hb dX1_least_10 (by decide) (by omega) (by omega) (fun c1 => ?_) (fun c1 => ?_)
  · refine lv_iload_n hx hb dX1_least_16 rfl (lv_at hl 1 rfl) ?_
    refine lv_if_lt (tgt := 28) hx hb dX1_least_17 (by decide) (fun c2 => ?_) (fun c2 => ?_)
    · refine lv_iconst (v := (-1)) hx hb dX1_least_28 (by decide) ?_
      exact hret _ _ 29 _ _ (nI (gL num).length, fNu, ne9, fa9, be9, fBr, fRe) dX1_least_29 (⟨⟨hnu, h7⟩, by rw [rsL, if_neg (by omega), if_pos c2]⟩) hP hD hS
    · obtain ⟨j0, hj0, rfl⟩ := nI_of c2
      refine lv_iload_n hx hb dX1_least_20 rfl (lv_at hl 1 rfl) ?_
      refine lv_aload_n hx hb dX1_least_21 rfl (lv_at hl 0 rfl) ?_
      refine g1_gaps hC hK hP dX1_least_22 ?_
      refine nb_lt (tgt := 30) hx hb dX1_least_25 (by decide) (by omega) (by omega) (fun c3 => ?_) (fun c3 => ?_)
      · have e0 : rsL num (nI j0) = lst num j0 := by rw [rsL, if_neg (by omega), if_neg c2, nI_clamp hj0, if_neg (by omega)]
        rw [← ls_eq c1] at e0
        generalize hT : rsL num (nI j0) = T at e0 hret
        refine lv_aload_n hx hb dX1_least_30 rfl (lv_at hl 0 rfl) ?_
        refine k_m_begin  hC hK hP hD hS hA (by decide) hl.1 (Nat.le_of_ble_eq_true rfl)  dX1_least_31 (fun  H locs _ hP hD hS => ?_)
        refine lv_iconst (v := nI 1) hx hb dX1_least_34 (by decide) ?_
        refine ct_i (y := bo true) (rfl) ?_
        refine lv_istore_n (lv' := [(2, .int (bo true)), (0, .ref h), (1, .int (nI j0))]) hx hb dX1_least_35 rfl hl (by decide) rfl (fun ls hl => ?_)
        refine lv_iconst (v := nI 0) hx hb dX1_least_36 (by decide) ?_
        refine lv_istore_n (lv' := [(3, .int (nI 0)), (2, .int (bo true)), (0, .ref h), (1, .int (nI j0))]) hx hb dX1_least_37 rfl hl (by decide) rfl (fun ls hl => ?_)
        have lp : ∀ (n : Nat) (i : Nat) (more : Bool) (b0 : Nat → Nat) (f re : Nat → Int32) (ls : Array Slot), (i ≤ 6561) → (brI f b0) → (T = if more then lsF num j0 (6561 - i) b0 else -1) → 6561 < i + n → ∀ (H : Heap) (locs : List Loc), va_P D vwCl (mdW h a dI dJ dZ (nI (gL num).length) fNu ne9 fa9 be9 f re) H → va_D A (mdW h a dI dJ dZ (nI (gL num).length) fNu ne9 fa9 be9 f re) → va_S A s.heap H locs → lv_has ls 4 [(0, .ref h), (1, .int (nI j0)), (2, .int (bo more)), (3, .int (nI i))] → W p l e rm_m_least s m ([.ref h, .int (nI j0)] : List Value).toArray below meth c H locs 0 0 Q (F0 m 38 ls []) := by
          intro n
          induction n with
          | zero =>
            intro i more b0 f re ls hi hb0 he hfu
            exact absurd hfu (by omega)
          | succ n ih =>
            intro i more b0 f re ls hi hb0 he hfu H locs hP hD hS hl
            refine lv_iload_n hx hb dX1_least_38 rfl (lv_at hl 3 rfl) ?_
            refine lv_sipush (v := nI 6561) hx hb dX1_least_39 (by decide) ?_
            refine nb_ge (tgt := 74) hx hb dX1_least_42 (by decide) (by omega) (by omega) (fun c4 => ?_) (fun c4 => ?_)
            · refine lv_iconst (v := (-1)) hx hb dX1_least_74 (by decide) ?_
              exact hret _ _ 75 _ _ (nI (gL num).length, fNu, ne9, fa9, be9, f, re) dX1_least_75 (⟨⟨hnu, h7⟩, by rw [he, show 6561 - i = 0 by omega, lsF]; cases more <;> rfl⟩) hP hD hS
            · refine lv_iload_n hx hb dX1_least_45 rfl (lv_at hl 2 rfl) ?_
              refine bz_eq (tgt := 74) hx hb dX1_least_46 (by decide) (fun c5 => ?_) (fun c5 => ?_)
              · refine lv_iconst (v := (-1)) hx hb dX1_least_74 (by decide) ?_
                exact hret _ _ 75 _ _ (nI (gL num).length, fNu, ne9, fa9, be9, f, re) dX1_least_75 (⟨⟨hnu, h7⟩, by rw [he, c5]; rfl⟩) hP hD hS
              · rw [c5, if_pos rfl, show 6561 - i = (6561 - (i + 1)) + 1 by omega, lsF] at he
                refine lv_aload_n hx hb dX1_least_49 rfl (lv_at hl 0 rfl) ?_
                refine k_m_solves (num := num) (br := b0) hC hK hP hD hS hA (by decide) hl.1 (Nat.le_of_ble_eq_true rfl) hM hb0 dX1_least_50 (fun r9 re9 H locs hr9 hP hD hS => ?_)
                refine ct_i (y := bo (mSol num b0)) (hr9) ?_
                refine bz_eq (tgt := 63) hx hb dX1_least_53 (by decide) (fun c6 => ?_) (fun c6 => ?_)
                · rw [c6, if_neg (by decide)] at he
                  refine lv_aload_n hx hb dX1_least_63 rfl (lv_at hl 0 rfl) ?_
                  refine k_m_next (num := num) (br := b0) hC hK hP hD hS hA (by decide) hl.1 (Nat.le_of_ble_eq_true rfl) hM hb0 dX1_least_64 (fun r9 br9 H locs ⟨hr9, hb9⟩ hP hD hS => ?_)
                  refine ct_i (y := bo ((nxF (gL num).length b0).1)) (hr9) ?_
                  refine lv_istore_n (lv' := [(2, .int (bo ((nxF (gL num).length b0).1))), (0, .ref h), (1, .int (nI j0)), (3, .int (nI i))]) hx hb dX1_least_67 rfl hl (by decide) rfl (fun ls hl => ?_)
                  refine lv_iinc (v := nI (i + 1)) (lv' := [(3, .int (nI (i + 1))), (2, .int (bo ((nxF (gL num).length b0).1))), (0, .ref h), (1, .int (nI j0))]) hx hb dX1_least_68 hl (k := 3) rfl (nI_1 _) (by decide) rfl (fun ls hl => ?_)
                  refine lv_goto (tgt := 38) hx hb dX1_least_71 (by decide) ?_
                  exact ih (i + 1) (nxF (gL num).length b0).1 _ _ _ _ (by omega) hb9 he (by omega) _ _ hP hD hS (lv_sub hl [2, 3, 1, 0] rfl)
                · rw [c6, if_pos rfl] at he
                  refine lv_aload_n hx hb dX1_least_56 rfl (lv_at hl 0 rfl) ?_
                  refine g1_bridges hC hK hP dX1_least_57 ?_
                  refine lv_iload_n hx hb dX1_least_60 rfl (lv_at hl 1 rfl) ?_
                  refine l1_bridges hC hK hP (by omega) dX1_least_61 ?_
                  refine ct_i (y := nI (b0 j0)) ((hb0 j0 (by omega)).1) ?_
                  exact hret _ _ 62 _ _ (nI (gL num).length, fNu, ne9, fa9, be9, f, re9) dX1_least_62 (⟨⟨hnu, h7⟩, he.symm⟩) hP hD hS
        exact lp 6562 0 true zF _ _ _ (by omega) (brI_0 _) e0 (by omega) _ _ hP hD hS (lv_sub hl [2, 3, 1, 0] rfl)
      · refine lv_iconst (v := (-1)) hx hb dX1_least_28 (by decide) ?_
        exact hret _ _ 29 _ _ (nI (gL num).length, fNu, ne9, fa9, be9, fBr, fRe) dX1_least_29 (⟨⟨hnu, h7⟩, by rw [rsL, if_neg (by omega), if_neg c2, nI_clamp hj0, if_pos c3]⟩) hP hD hS
  · refine lv_bipush (v := (-2)) hx hb dX1_least_13 (by decide) ?_
    exact hret _ _ 15 _ _ (nI (gL num).length, fNu, ne9, fa9, be9, fBr, fRe) dX1_least_15 (⟨⟨hnu, h7⟩, (if_pos c1).symm⟩) hP hD hS
abbrev rm_m_always : Room := { frames := 3, cells := 0, slots := 0, locals := 68 }
set_option maxHeartbeats 4000000 in
set_option maxRecDepth 100000 in
/-- always -/
theorem t_m_always (l : Launch) (D : va_G) (h : Nat) (a : Nat → Nat) (dI dJ dZ : ClassId) (vGa : Int32) (fNu : Nat → Int32) (fNe : Nat → Int32) (fFa : Nat → Int32) (fBe : Nat → Int64) (fBr : Nat → Int32) (fRe : Nat → Int32) (num : Nat → Nat) (x : Int32) (hB : MDok num fNu) (sz : Nat) : Met l yX1_always (ws_ yX1_always cX1_always 5 (some .int)) rm_m_always (cP D (kM dI dJ dZ) (mdW h a dI dJ dZ vGa fNu fNe fFa fBe fBr fRe) sz [.ref h, .int x]) (cQi D (kM dI dJ dZ) (mdW h a dI dJ dZ vGa fNu fNe fFa fBe fBr fRe) sz (fun (r : Int32) (u : (Int32) × (Nat → Int32) × (Nat → Int32) × (Nat → Int32) × (Nat → Int64) × (Nat → Int32) × (Nat → Int32)) => MDok (num) u.2.1 ∧ r = rsA num x) (fun (u : (Int32) × (Nat → Int32) × (Nat → Int32) × (Nat → Int32) × (Nat → Int64) × (Nat → Int32) × (Nat → Int32)) => mdW h a dI dJ dZ u.1 u.2.1 u.2.2.1 u.2.2.2.1 u.2.2.2.2.1 u.2.2.2.2.2.1 u.2.2.2.2.2.2)) 0 0 (va_A (mdW h a dI dJ dZ vGa fNu fNe fFa fBe fBr fRe) sz) := by
  refine en_i (by decide) (Nat.le_of_ble_eq_true rfl) ?_
  intro p e s m below meth c ls Q A hC hP hK hD hA hS hl hret
  have hC : CallFix p m c cX1_always 5 s _ lw_all RX1 := hC
  have hx := hC.1
  have hb := hC.2.1
  have hl : lv_has ls 5 [(0, .ref h), (1, .int x)] := hl
  obtain ⟨hnu, h7⟩ := hB
  have h14 := gL_len h7
  refine lv_aload_n hx hb dX1_always_0 rfl (lv_at hl 0 rfl) ?_
  refine k_m_survey (num := num) hC hK hP hD hS hA (by decide) hl.1 (Nat.le_of_ble_eq_true rfl) hnu h7 dX1_always_1 (fun ne9 fa9 be9 H locs hM hP hD hS => ?_)
  refine lv_aload_n hx hb dX1_always_4 rfl (lv_at hl 0 rfl) ?_
  refine g1_gaps hC hK hP dX1_always_5 ?_
  refine lv_bipush (v := nI 8) hx hb dX1_always_8 (by decide) ?_
  refine nb_le (tgt := 16) hx hb dX1_always_10 (by decide) (by omega) (by omega) (fun c1 => ?_) (fun c1 => ?_)
  · refine lv_iload_n hx hb dX1_always_16 rfl (lv_at hl 1 rfl) ?_
    refine lv_if_lt (tgt := 28) hx hb dX1_always_17 (by decide) (fun c2 => ?_) (fun c2 => ?_)
    · refine lv_iconst (v := (-1)) hx hb dX1_always_28 (by decide) ?_
      exact hret _ _ 29 _ _ (nI (gL num).length, fNu, ne9, fa9, be9, fBr, fRe) dX1_always_29 (⟨⟨hnu, h7⟩, by rw [rsA, if_neg (by omega), if_pos c2]⟩) hP hD hS
    · obtain ⟨j0, hj0, rfl⟩ := nI_of c2
      refine lv_iload_n hx hb dX1_always_20 rfl (lv_at hl 1 rfl) ?_
      refine lv_aload_n hx hb dX1_always_21 rfl (lv_at hl 0 rfl) ?_
      refine g1_gaps hC hK hP dX1_always_22 ?_
      refine nb_lt (tgt := 30) hx hb dX1_always_25 (by decide) (by omega) (by omega) (fun c3 => ?_) (fun c3 => ?_)
      · have e0 : rsA num (nI j0) = alw num j0 := by rw [rsA, if_neg (by omega), if_neg c2, nI_clamp hj0, if_neg (by omega)]
        rw [alw_m] at e0
        have hs6 := sols_le c1
        have hsu := cnW_sum (num := num) j0
        refine lv_aload_n hx hb dX1_always_30 rfl (lv_at hl 0 rfl) ?_
        refine lv_iload_n hx hb dX1_always_31 rfl (lv_at hl 1 rfl) ?_
        refine lv_iconst (v := nI 0) hx hb dX1_always_32 (by decide) ?_
        refine k_m_count (num := num) (x := nI j0) (y := nI 0) hC hK hP hD hS hA (by decide) hl.1 (Nat.le_of_ble_eq_true rfl) hM (Or.inr (by rw [nI_clamp hj0]; omega)) dX1_always_33 (fun r2 br2 re2 H locs hct2 hP hD hS => ?_)
        refine ct_i (y := nI (cnW num j0 0)) (hct2.trans (congrArg nI (ct_w c1 hj0 (by decide)))) ?_
        refine lv_istore_n (lv' := [(2, .int (nI (cnW num j0 0))), (0, .ref h), (1, .int (nI j0))]) hx hb dX1_always_36 rfl hl (by decide) rfl (fun ls hl => ?_)
        refine lv_aload_n hx hb dX1_always_37 rfl (lv_at hl 1 rfl) ?_
        refine lv_iload_n hx hb dX1_always_38 rfl (lv_at hl 2 rfl) ?_
        refine lv_iconst (v := nI 1) hx hb dX1_always_39 (by decide) ?_
        refine k_m_count (num := num) (x := nI j0) (y := nI 1) hC hK hP hD hS hA (by decide) hl.1 (Nat.le_of_ble_eq_true rfl) hM (Or.inr (by rw [nI_clamp hj0]; omega)) dX1_always_40 (fun r3 br3 re3 H locs hct3 hP hD hS => ?_)
        refine ct_i (y := nI (cnW num j0 1)) (hct3.trans (congrArg nI (ct_w c1 hj0 (by decide)))) ?_
        refine lv_istore_n (lv' := [(3, .int (nI (cnW num j0 1))), (2, .int (nI (cnW num j0 0))), (0, .ref h), (1, .int (nI j0))]) hx hb dX1_always_43 rfl hl (by decide) rfl (fun ls hl => ?_)
        refine lv_aload_n hx hb dX1_always_44 rfl (lv_at hl 2 rfl) ?_
        refine lv_iload_n hx hb dX1_always_45 rfl (lv_at hl 3 rfl) ?_
        refine lv_iconst (v := nI 2) hx hb dX1_always_46 (by decide) ?_
        refine k_m_count (num := num) (x := nI j0) (y := nI 2) hC hK hP hD hS hA (by decide) hl.1 (Nat.le_of_ble_eq_true rfl) hM (Or.inr (by rw [nI_clamp hj0]; omega)) dX1_always_47 (fun r4 br4 re4 H locs hct4 hP hD hS => ?_)
        refine ct_i (y := nI (cnW num j0 2)) (hct4.trans (congrArg nI (ct_w c1 hj0 (by decide)))) ?_
        refine lv_istore (lv' := [(4, .int (nI (cnW num j0 2))), (3, .int (nI (cnW num j0 1))), (2, .int (nI (cnW num j0 0))), (0, .ref h), (1, .int (nI j0))]) hx hb dX1_always_50 hl (by decide) rfl (fun ls hl => ?_)
        refine lv_iload_n hx hb dX1_always_52 rfl (lv_at hl 2 rfl) ?_
        refine nz_le (tgt := 65) hx hb dX1_always_53 (by decide) (by omega) (fun c4 => ?_) (fun c4 => ?_)
        · refine lv_iload_n hx hb dX1_always_65 rfl (lv_at hl 1 rfl) ?_
          refine nz_le (tgt := 78) hx hb dX1_always_66 (by decide) (by omega) (fun c5 => ?_) (fun c5 => ?_)
          · refine lv_iload hx hb dX1_always_78 (lv_at hl 0 rfl) ?_
            refine nz_le (tgt := 91) hx hb dX1_always_80 (by decide) (by omega) (fun c6 => ?_) (fun c6 => ?_)
            · refine lv_iconst (v := (-1)) hx hb dX1_always_91 (by decide) ?_
              exact hret _ _ 92 _ _ (nI (gL num).length, fNu, ne9, fa9, be9, br4, re4) dX1_always_92 (⟨⟨hnu, h7⟩, by rw [e0, if_neg (by omega), if_neg (by omega), if_neg (by omega)]⟩) hP hD hS
            · refine lv_iload_n hx hb dX1_always_83 rfl (lv_at hl 2 rfl) ?_
              refine lv_iload_n hx hb dX1_always_84 rfl (lv_at hl 1 rfl) ?_
              refine nn_add hx hb dX1_always_85 ?_
              refine nz_ne (tgt := 91) hx hb dX1_always_86 (by decide) (by omega) (fun c7 => ?_) (fun c7 => ?_)
              · refine lv_iconst (v := (-1)) hx hb dX1_always_91 (by decide) ?_
                exact hret _ _ 92 _ _ (nI (gL num).length, fNu, ne9, fa9, be9, br4, re4) dX1_always_92 (⟨⟨hnu, h7⟩, by rw [e0, if_neg (by omega), if_neg (by omega), if_neg (by omega)]⟩) hP hD hS
              · refine lv_iconst (v := nI 2) hx hb dX1_always_89 (by decide) ?_
                exact hret _ _ 90 _ _ (nI (gL num).length, fNu, ne9, fa9, be9, br4, re4) dX1_always_90 (⟨⟨hnu, h7⟩, by rw [e0, if_neg (by omega), if_neg (by omega), if_pos (by omega)]⟩) hP hD hS
          · refine lv_iload_n hx hb dX1_always_69 rfl (lv_at hl 2 rfl) ?_
            refine lv_iload hx hb dX1_always_70 (lv_at hl 0 rfl) ?_
            refine nn_add hx hb dX1_always_72 ?_
            refine nz_ne (tgt := 78) hx hb dX1_always_73 (by decide) (by omega) (fun c8 => ?_) (fun c8 => ?_)
            · refine lv_iload hx hb dX1_always_78 (lv_at hl 0 rfl) ?_
              refine nz_le (tgt := 91) hx hb dX1_always_80 (by decide) (by omega) (fun c9 => ?_) (fun c9 => ?_)
              · refine lv_iconst (v := (-1)) hx hb dX1_always_91 (by decide) ?_
                exact hret _ _ 92 _ _ (nI (gL num).length, fNu, ne9, fa9, be9, br4, re4) dX1_always_92 (⟨⟨hnu, h7⟩, by rw [e0, if_neg (by omega), if_neg (by omega), if_neg (by omega)]⟩) hP hD hS
              · refine lv_iload_n hx hb dX1_always_83 rfl (lv_at hl 2 rfl) ?_
                refine lv_iload_n hx hb dX1_always_84 rfl (lv_at hl 1 rfl) ?_
                refine nn_add hx hb dX1_always_85 ?_
                refine nz_ne (tgt := 91) hx hb dX1_always_86 (by decide) (by omega) (fun c10 => ?_) (fun c10 => ?_)
                · refine lv_iconst (v := (-1)) hx hb dX1_always_91 (by decide) ?_
                  exact hret _ _ 92 _ _ (nI (gL num).length, fNu, ne9, fa9, be9, br4, re4) dX1_always_92 (⟨⟨hnu, h7⟩, by rw [e0, if_neg (by omega), if_neg (by omega), if_neg (by omega)]⟩) hP hD hS
                · refine lv_iconst (v := nI 2) hx hb dX1_always_89 (by decide) ?_
                  exact hret _ _ 90 _ _ (nI (gL num).length, fNu, ne9, fa9, be9, br4, re4) dX1_always_90 (⟨⟨hnu, h7⟩, by rw [e0, if_neg (by omega), if_neg (by omega), if_pos (by omega)]⟩) hP hD hS
            · refine lv_iconst (v := nI 1) hx hb dX1_always_76 (by decide) ?_
              exact hret _ _ 77 _ _ (nI (gL num).length, fNu, ne9, fa9, be9, br4, re4) dX1_always_77 (⟨⟨hnu, h7⟩, by rw [e0, if_neg (by omega), if_pos (by omega)]⟩) hP hD hS
        · refine lv_iload_n hx hb dX1_always_56 rfl (lv_at hl 1 rfl) ?_
          refine lv_iload hx hb dX1_always_57 (lv_at hl 0 rfl) ?_
          refine nn_add hx hb dX1_always_59 ?_
          refine nz_ne (tgt := 65) hx hb dX1_always_60 (by decide) (by omega) (fun c11 => ?_) (fun c11 => ?_)
          · refine lv_iload_n hx hb dX1_always_65 rfl (lv_at hl 1 rfl) ?_
            refine nz_le (tgt := 78) hx hb dX1_always_66 (by decide) (by omega) (fun c12 => ?_) (fun c12 => ?_)
            · refine lv_iload hx hb dX1_always_78 (lv_at hl 0 rfl) ?_
              refine nz_le (tgt := 91) hx hb dX1_always_80 (by decide) (by omega) (fun c13 => ?_) (fun c13 => ?_)
              · refine lv_iconst (v := (-1)) hx hb dX1_always_91 (by decide) ?_
                exact hret _ _ 92 _ _ (nI (gL num).length, fNu, ne9, fa9, be9, br4, re4) dX1_always_92 (⟨⟨hnu, h7⟩, by rw [e0, if_neg (by omega), if_neg (by omega), if_neg (by omega)]⟩) hP hD hS
              · refine lv_iload_n hx hb dX1_always_83 rfl (lv_at hl 2 rfl) ?_
                refine lv_iload_n hx hb dX1_always_84 rfl (lv_at hl 1 rfl) ?_
                refine nn_add hx hb dX1_always_85 ?_
                refine nz_ne (tgt := 91) hx hb dX1_always_86 (by decide) (by omega) (fun c14 => ?_) (fun c14 => ?_)
                · refine lv_iconst (v := (-1)) hx hb dX1_always_91 (by decide) ?_
                  exact hret _ _ 92 _ _ (nI (gL num).length, fNu, ne9, fa9, be9, br4, re4) dX1_always_92 (⟨⟨hnu, h7⟩, by rw [e0, if_neg (by omega), if_neg (by omega), if_neg (by omega)]⟩) hP hD hS
                · refine lv_iconst (v := nI 2) hx hb dX1_always_89 (by decide) ?_
                  exact hret _ _ 90 _ _ (nI (gL num).length, fNu, ne9, fa9, be9, br4, re4) dX1_always_90 (⟨⟨hnu, h7⟩, by rw [e0, if_neg (by omega), if_neg (by omega), if_pos (by omega)]⟩) hP hD hS
            · refine lv_iload_n hx hb dX1_always_69 rfl (lv_at hl 2 rfl) ?_
              refine lv_iload hx hb dX1_always_70 (lv_at hl 0 rfl) ?_
              refine nn_add hx hb dX1_always_72 ?_
              refine nz_ne (tgt := 78) hx hb dX1_always_73 (by decide) (by omega) (fun c15 => ?_) (fun c15 => ?_)
              · refine lv_iload hx hb dX1_always_78 (lv_at hl 0 rfl) ?_
                refine nz_le (tgt := 91) hx hb dX1_always_80 (by decide) (by omega) (fun c16 => ?_) (fun c16 => ?_)
                · refine lv_iconst (v := (-1)) hx hb dX1_always_91 (by decide) ?_
                  exact hret _ _ 92 _ _ (nI (gL num).length, fNu, ne9, fa9, be9, br4, re4) dX1_always_92 (⟨⟨hnu, h7⟩, by rw [e0, if_neg (by omega), if_neg (by omega), if_neg (by omega)]⟩) hP hD hS
                · refine lv_iload_n hx hb dX1_always_83 rfl (lv_at hl 2 rfl) ?_
                  refine lv_iload_n hx hb dX1_always_84 rfl (lv_at hl 1 rfl) ?_
                  refine nn_add hx hb dX1_always_85 ?_
                  refine nz_ne (tgt := 91) hx hb dX1_always_86 (by decide) (by omega) (fun c17 => ?_) (fun c17 => ?_)
                  · refine lv_iconst (v := (-1)) hx hb dX1_always_91 (by decide) ?_
                    exact hret _ _ 92 _ _ (nI (gL num).length, fNu, ne9, fa9, be9, br4, re4) dX1_always_92 (⟨⟨hnu, h7⟩, by rw [e0, if_neg (by omega), if_neg (by omega), if_neg (by omega)]⟩) hP hD hS
                  · refine lv_iconst (v := nI 2) hx hb dX1_always_89 (by decide) ?_
                    exact hret _ _ 90 _ _ (nI (gL num).length, fNu, ne9, fa9, be9, br4, re4) dX1_always_90 (⟨⟨hnu, h7⟩, by rw [e0, if_neg (by omega), if_neg (by omega), if_pos (by omega)]⟩) hP hD hS
              · refine lv_iconst (v := nI 1) hx hb dX1_always_76 (by decide) ?_
                exact hret _ _ 77 _ _ (nI (gL num).length, fNu, ne9, fa9, be9, br4, re4) dX1_always_77 (⟨⟨hnu, h7⟩, by rw [e0, if_neg (by omega), if_pos (by omega)]⟩) hP hD hS
          · refine lv_iconst (v := nI 0) hx hb dX1_always_63 (by decide) ?_
            exact hret _ _ 64 _ _ (nI (gL num).length, fNu, ne9, fa9, be9, br4, re4) dX1_always_64 (⟨⟨hnu, h7⟩, by rw [e0, if_pos (by omega)]⟩) hP hD hS
      · refine lv_iconst (v := (-1)) hx hb dX1_always_28 (by decide) ?_
        exact hret _ _ 29 _ _ (nI (gL num).length, fNu, ne9, fa9, be9, fBr, fRe) dX1_always_29 (⟨⟨hnu, h7⟩, by rw [rsA, if_neg (by omega), if_neg c2, nI_clamp hj0, if_pos c3]⟩) hP hD hS
  · refine lv_bipush (v := (-2)) hx hb dX1_always_13 (by decide) ?_
    exact hret _ _ 15 _ _ (nI (gL num).length, fNu, ne9, fa9, be9, fBr, fRe) dX1_always_15 (⟨⟨hnu, h7⟩, (if_pos c1).symm⟩) hP hD hS
abbrev rm_m_with : Room := { frames := 3, cells := 0, slots := 0, locals := 68 }
set_option maxHeartbeats 4000000 in
set_option maxRecDepth 100000 in
/-- with -/
theorem t_m_with (l : Launch) (D : va_G) (h : Nat) (a : Nat → Nat) (dI dJ dZ : ClassId) (vGa : Int32) (fNu : Nat → Int32) (fNe : Nat → Int32) (fFa : Nat → Int32) (fBe : Nat → Int64) (fBr : Nat → Int32) (fRe : Nat → Int32) (num : Nat → Nat) (x y : Int32) (hB : MDok num fNu) (sz : Nat) : Met l yX1_with (ws_ yX1_with cX1_with 3 (some .int)) rm_m_with (cP D (kM dI dJ dZ) (mdW h a dI dJ dZ vGa fNu fNe fFa fBe fBr fRe) sz [.ref h, .int x, .int y]) (cQi D (kM dI dJ dZ) (mdW h a dI dJ dZ vGa fNu fNe fFa fBe fBr fRe) sz (fun (r : Int32) (u : (Int32) × (Nat → Int32) × (Nat → Int32) × (Nat → Int32) × (Nat → Int64) × (Nat → Int32) × (Nat → Int32)) => MDok (num) u.2.1 ∧ r = rsW num x y) (fun (u : (Int32) × (Nat → Int32) × (Nat → Int32) × (Nat → Int32) × (Nat → Int64) × (Nat → Int32) × (Nat → Int32)) => mdW h a dI dJ dZ u.1 u.2.1 u.2.2.1 u.2.2.2.1 u.2.2.2.2.1 u.2.2.2.2.2.1 u.2.2.2.2.2.2)) 0 0 (va_A (mdW h a dI dJ dZ vGa fNu fNe fFa fBe fBr fRe) sz) := by
  refine en_i (by decide) (Nat.le_of_ble_eq_true rfl) ?_
  intro p e s m below meth c ls Q A hC hP hK hD hA hS hl hret
  have hC : CallFix p m c cX1_with 3 s _ lw_all RX1 := hC
  have hx := hC.1
  have hb := hC.2.1
  have hl : lv_has ls 3 [(0, .ref h), (1, .int x), (2, .int y)] := hl
  obtain ⟨hnu, h7⟩ := hB
  have h14 := gL_len h7
  refine lv_aload_n hx hb dX1_with_0 rfl (lv_at hl 0 rfl) ?_
  refine k_m_survey (num := num) hC hK hP hD hS hA (by decide) hl.1 (Nat.le_of_ble_eq_true rfl) hnu h7 dX1_with_1 (fun ne9 fa9 be9 H locs hM hP hD hS => ?_)
  refine lv_aload_n hx hb dX1_with_4 rfl (lv_at hl 0 rfl) ?_
  refine g1_gaps hC hK hP dX1_with_5 ?_
  refine lv_bipush (v := nI 8) hx hb dX1_with_8 (by decide) ?_
  refine nb_le (tgt := 16) hx hb dX1_with_10 (by decide) (by omega) (by omega) (fun c1 => ?_) (fun c1 => ?_)
  · refine lv_iload_n hx hb dX1_with_16 rfl (lv_at hl 1 rfl) ?_
    refine lv_if_lt (tgt := 37) hx hb dX1_with_17 (by decide) (fun c2 => ?_) (fun c2 => ?_)
    · refine lv_iconst (v := (-1)) hx hb dX1_with_37 (by decide) ?_
      exact hret _ _ 38 _ _ (nI (gL num).length, fNu, ne9, fa9, be9, fBr, fRe) dX1_with_38 (⟨⟨hnu, h7⟩, by rw [rsW, if_neg (by omega), if_pos c2]⟩) hP hD hS
    · obtain ⟨j0, hj0, rfl⟩ := nI_of c2
      refine lv_iload_n hx hb dX1_with_20 rfl (lv_at hl 1 rfl) ?_
      refine lv_aload_n hx hb dX1_with_21 rfl (lv_at hl 0 rfl) ?_
      refine g1_gaps hC hK hP dX1_with_22 ?_
      refine nb_ge (tgt := 37) hx hb dX1_with_25 (by decide) (by omega) (by omega) (fun c3 => ?_) (fun c3 => ?_)
      · refine lv_iconst (v := (-1)) hx hb dX1_with_37 (by decide) ?_
        exact hret _ _ 38 _ _ (nI (gL num).length, fNu, ne9, fa9, be9, fBr, fRe) dX1_with_38 (⟨⟨hnu, h7⟩, by rw [rsW, if_neg (by omega), if_neg c2, nI_clamp hj0, if_pos c3]⟩) hP hD hS
      · refine lv_iload_n hx hb dX1_with_28 rfl (lv_at hl 2 rfl) ?_
        refine lv_if_lt (tgt := 37) hx hb dX1_with_29 (by decide) (fun c4 => ?_) (fun c4 => ?_)
        · refine lv_iconst (v := (-1)) hx hb dX1_with_37 (by decide) ?_
          exact hret _ _ 38 _ _ (nI (gL num).length, fNu, ne9, fa9, be9, fBr, fRe) dX1_with_38 (⟨⟨hnu, h7⟩, by rw [rsW, if_neg (by omega), if_neg c2, nI_clamp hj0, if_neg (by omega), if_pos (Or.inl c4)]⟩) hP hD hS
        · refine lv_iload_n hx hb dX1_with_32 rfl (lv_at hl 2 rfl) ?_
          refine lv_iconst (v := nI 2) hx hb dX1_with_33 (by decide) ?_
          refine lv_icmp_le (tgt := 39) hx hb dX1_with_34 (by decide) (fun c5 => ?_) (fun c5 => ?_)
          · have e0 : rsW num (nI j0) y = nI (cnW num j0 y.toNatClampNeg) := by rw [rsW, if_neg (by omega), if_neg c2, nI_clamp hj0, if_neg (by omega), if_neg (fun q => q.elim c4 (fun q => absurd c5 (Int32.not_le.mpr q)))]
            obtain ⟨b0, hb0, rfl⟩ := nI_of c4
            have hb2 : b0 ≤ 2 := (nI_leI hb0 (by decide)).mp c5
            refine lv_aload_n hx hb dX1_with_39 rfl (lv_at hl 0 rfl) ?_
            refine lv_iload_n hx hb dX1_with_40 rfl (lv_at hl 1 rfl) ?_
            refine lv_iload_n hx hb dX1_with_41 rfl (lv_at hl 2 rfl) ?_
            refine k_m_count (num := num) (x := nI j0) (y := nI b0) hC hK hP hD hS hA (by decide) hl.1 (Nat.le_of_ble_eq_true rfl) hM (Or.inr (by rw [nI_clamp hj0]; omega)) dX1_with_42 (fun r5 br5 re5 H locs hct5 hP hD hS => ?_)
            refine ct_i (y := nI (cnW num j0 b0)) (hct5.trans (congrArg nI (ct_w c1 hj0 hb0))) ?_
            exact hret _ _ 45 _ _ (nI (gL num).length, fNu, ne9, fa9, be9, br5, re5) dX1_with_45 (⟨⟨hnu, h7⟩, by rw [e0, nI_clamp hb0]⟩) hP hD hS
          · refine lv_iconst (v := (-1)) hx hb dX1_with_37 (by decide) ?_
            exact hret _ _ 38 _ _ (nI (gL num).length, fNu, ne9, fa9, be9, fBr, fRe) dX1_with_38 (⟨⟨hnu, h7⟩, by rw [rsW, if_neg (by omega), if_neg c2, nI_clamp hj0, if_neg (by omega), if_pos (Or.inr (show (2 : Int32) < y from Int32.not_le.mp c5))]⟩) hP hD hS
  · refine lv_bipush (v := (-2)) hx hb dX1_with_13 (by decide) ?_
    exact hret _ _ 15 _ _ (nI (gL num).length, fNu, ne9, fa9, be9, fBr, fRe) dX1_with_15 (⟨⟨hnu, h7⟩, (if_pos c1).symm⟩) hP hD hS
end
section
/-! what narrowing keeps: no program here -/
def wfS (G : Nat) (x : Int32) : Prop := ∀ i, 3 * G ≤ i → bt x i = false
def neS (G : Nat) (x : Int32) : Prop := ∀ g, g < G → ∃ b, b < 3 ∧ pb x g b = true
def sbS (G : Nat) (y x : Int32) : Prop := ∀ g b, g < G → b < 3 → pb y g b = true → pb x g b = true
def inS (G : Nat) (x : Int32) (f : Nat → Nat) : Prop := ∀ g, g < G → f g < 3 ∧ pb x g (f g) = true
theorem sbS_rf {G : Nat} {x : Int32} : sbS G x x := fun _ _ _ _ h => h
theorem sbS_tr {G : Nat} {x y z : Int32} (h1 : sbS G x y) (h2 : sbS G y z) : sbS G x z := fun g b hg hb h => h2 g b hg hb (h1 g b hg hb h)
theorem sbS_eq {G : Nat} {x y : Int32} (hx : wfS G x) (hy : wfS G y) (h1 : sbS G x y) (h2 : sbS G y x) : x = y := by
  refine b_ext (fun i hi => ?_)
  by_cases h : 3 * G ≤ i
  · rw [hx i h, hy i h]
  · have e : i = 3 * (i / 3) + i % 3 := by omega
    have a1 := h1 (i / 3) (i % 3) (by omega) (by omega)
    have a2 := h2 (i / 3) (i % 3) (by omega) (by omega)
    unfold pb at a1 a2
    rw [← e] at a1 a2
    cases hq : bt x i with
    | true => exact (a1 hq).symm
    | false =>
      cases hz : bt y i with
      | true => rw [a2 hz] at hq; cases hq
      | false => rfl
theorem nn_of_bt {x : Int32} (h : bt x 31 = false) : 0 ≤ x := by
  rw [Int32.le_iff_toInt_le]
  show (0 : Int) ≤ x.toBitVec.toInt
  rw [BitVec.toInt_eq_msb_cond, BitVec.msb_eq_getLsbD_last]
  have h1 : x.toBitVec.getLsbD (32 - 1) = false := h
  rw [h1]
  simp
theorem wf_nn {G : Nat} (hG : G ≤ 8) {x : Int32} (h : wfS G x) : 0 ≤ x := nn_of_bt (h 31 (by omega))
theorem m1_neg : ¬ (0 : Int32) ≤ -1 := by decide
theorem rs_wf {G g : Nat} (hG : G ≤ 8) (hg : g < G) {x : Int32} (s : Int32) (h : wfS G x) : wfS G (rs x g s) := by
  intro i hi
  rcases Nat.lt_or_ge i 32 with q | q
  · rw [rs_bt x s (by omega) q, if_neg (by omega)]
    exact h i hi
  · exact b_big q
theorem rs_sb {G g : Nat} (hG : G ≤ 8) (hg : g < G) {x : Int32} (s : Int32) : sbS G (rs x g s) x := by
  intro h b hh hb q
  rw [pb_rs x s (by omega) (by omega) hb] at q
  by_cases e : h = g
  · rw [if_pos e] at q
    simp at q
    rw [e]; exact q.1
  · rw [if_neg e] at q; exact q
theorem rs_in {G g : Nat} (hG : G ≤ 8) (hg : g < G) {x s : Int32} {f : Nat → Nat} (h : inS G x f) (hs : bt s (f g) = true) : inS G (rs x g s) f := by
  intro k hk
  obtain ⟨h1, h2⟩ := h k hk
  refine ⟨h1, ?_⟩
  rw [pb_rs x s (by omega) (by omega) h1]
  by_cases e : k = g
  · subst e; rw [if_pos rfl, h2, hs]; rfl
  · rw [if_neg e]; exact h2
theorem in_dm {G g : Nat} (hg : g < G) {x : Int32} {f : Nat → Nat} (h : inS G x f) : ¬ dm x g = 0 := by
  obtain ⟨h1, h2⟩ := h g hg
  rw [dm, mk3_0]
  intro q
  rcases (show f g = 0 ∨ f g = 1 ∨ f g = 2 by omega) with e | e | e <;> (rw [e] at h2; rw [h2] at q; simp at q)
theorem dm_ne {x : Int32} {g : Nat} (h : ¬ dm x g = 0) : ∃ b, b < 3 ∧ pb x g b = true := by
  rw [dm, mk3_0] at h
  cases h0 : pb x g 0 with
  | true => exact ⟨0, by omega, h0⟩
  | false =>
    cases h1 : pb x g 1 with
    | true => exact ⟨1, by omega, h1⟩
    | false =>
      cases h2 : pb x g 2 with
      | true => exact ⟨2, by omega, h2⟩
      | false => rw [h0, h1, h2] at h; exact absurd rfl h
theorem rs_ne {G g : Nat} (hG : G ≤ 8) (hg : g < G) {x s : Int32} (h : neS G x) (hd : ∃ b, b < 3 ∧ pb (rs x g s) g b = true) : neS G (rs x g s) := by
  intro k hk
  by_cases e : k = g
  · rw [e]; exact hd
  · obtain ⟨b, hb, q⟩ := h k hk
    refine ⟨b, hb, ?_⟩
    rw [pb_rs x s (by omega) (by omega) hb, if_neg e]; exact q
theorem sum_le {a b : Nat → Nat} : ∀ n, (∀ g, g < n → a g ≤ b g) → sumT a n ≤ sumT b n := by
  intro n
  induction n with
  | zero => intro _; exact Nat.le_refl _
  | succ n ih =>
    intro h
    have h1 := ih (fun g hg => h g (by omega))
    have h2 := h n (by omega)
    simp only [sumT]; omega
theorem sum_ex {a b : Nat → Nat} : ∀ n, (∀ g, g < n → a g ≤ b g) → ∀ g, g < n → sumT a n + b g ≤ sumT b n + a g := by
  intro n
  induction n with
  | zero => intro _ g hg; omega
  | succ n ih =>
    intro h g hg
    have h1 := sum_le n (fun g hg => h g (by omega))
    have h2 := h n (by omega)
    simp only [sumT]
    by_cases e : g = n
    · subst e; omega
    · have h3 := ih (fun g hg => h g (by omega)) g (by omega)
      omega
theorem sum_eq {a b : Nat → Nat} : ∀ n, (∀ g, g < n → a g = b g) → sumT a n = sumT b n := by
  intro n
  induction n with
  | zero => intro _; rfl
  | succ n ih =>
    intro h
    simp only [sumT]
    rw [ih (fun g hg => h g (by omega)), h n (by omega)]
theorem in_lo {G g : Nat} (hg : g < G) {x : Int32} {f : Nat → Nat} (h : inS G x f) : lw x g ≤ f g ∧ f g ≤ hw x g := by
  obtain ⟨h1, h2⟩ := h g hg
  unfold lw hw
  rcases (show f g = 0 ∨ f g = 1 ∨ f g = 2 by omega) with e | e | e
  · rw [e] at h2; rw [h2, e]; simp
  · rw [e] at h2; rw [h2, e]
    constructor
    · split <;> simp
    · split <;> simp
  · rw [e] at h2; rw [h2, e]
    constructor
    · split
      · omega
      · split <;> omega
    · simp
/-! reached islands, over the gaps that are on -/
section
variable (G N : Nat) (nr ds du : Nat → Nat) (cr : Nat → Nat → Bool)
def rg1 (on : Nat → Bool) (g : Nat) (r : Int32) : Int32 := if on g then (if r &&& enb nr ds g = 0 then r else r ||| enb nr ds g) else r
def rgL (on : Nat → Bool) : Nat → Nat → Int32 → Int32
  | 0, _, r => r
  | n + 1, g, r => rgL on n (g + 1) (rg1 nr ds on g r)
def rgs (on : Nat → Bool) : Nat → Int32 → Int32
  | 0, r => r
  | k + 1, r => rgs on k (rgL nr ds on G 0 r)
def ful : Int32 := (nI 1 <<< (nI N &&& 31)) - nI 1
def hgF (on : Nat → Bool) : Prop := N = 0 ∨ rgs G nr ds on 7 (nI 1) = ful N
def onX (x wo : Int32) (g : Nat) : Bool := !decide (nI g = wo) && (pb x g 1 || pb x g 2)
def SoB (f : Nat → Nat) : Prop := (∀ i, i < N → sumT (fun g => if tc nr ds g i then f g else 0) G = du i) ∧ (∀ g h, g < G → h < G → cr g h = true → f g = 0 ∨ f h = 0) ∧ hgF G N nr ds (fun g => decide (0 < f g))
end
theorem hg1_rg (nr ds : Nat → Nat) (x wo : Int32) (g : Nat) (r : Int32) : hg1 nr ds x wo g r = rg1 nr ds (onX x wo) g r := by
  unfold hg1 rg1 onX
  by_cases e : nI g = wo
  · simp [e]
  · simp [e]
theorem hgL_rg (nr ds : Nat → Nat) (x wo : Int32) : ∀ n g r, hgL nr ds x wo n g r = rgL nr ds (onX x wo) n g r := by
  intro n
  induction n with
  | zero => intro g r; rfl
  | succ n ih => intro g r; rw [hgL, rgL, hg1_rg, ih]
theorem hgs_rg (G : Nat) (nr ds : Nat → Nat) (x wo : Int32) : ∀ k r, hgs G nr ds x wo k r = rgs G nr ds (onX x wo) k r := by
  intro k
  induction k with
  | zero => intro r; rfl
  | succ k ih => intro r; rw [hgs, rgs, hgL_rg, ih]
theorem hang_iff (G N : Nat) (nr ds : Nat → Nat) (x wo : Int32) : hang G N nr ds x wo = true ↔ hgF G N nr ds (onX x wo) := by
  unfold hang hgF ful
  rw [hgs_rg]
  simp
def sb32 (r q : Int32) : Prop := ∀ i, i < 32 → bt r i = true → bt q i = true
theorem and0 (r q : Int32) : r &&& q = 0 ↔ ∀ i, i < 32 → ¬ (bt r i = true ∧ bt q i = true) := by
  constructor
  · intro h i hi hq
    have h1 : bt (r &&& q) i = false := by rw [h]; exact b_0 i
    rw [b_and, hq.1, hq.2] at h1
    cases h1
  · intro h
    refine b_ext (fun i hi => ?_)
    rw [b_and, b_0]
    have := h i hi
    cases h1 : bt r i <;> cases h2 : bt q i <;> simp_all
theorem rg1_mono {nr ds : Nat → Nat} {on on' : Nat → Bool} {g : Nat} (ho : on g = true → on' g = true) {r q : Int32} (h : sb32 r q) : sb32 (rg1 nr ds on g r) (rg1 nr ds on' g q) := by
  have base : sb32 q (rg1 nr ds on' g q) := by
    intro i hi z
    unfold rg1
    split
    · split
      · exact z
      · rw [b_or, z]; rfl
    · exact z
  intro i hi z
  unfold rg1 at z
  by_cases h1 : on g = true
  · rw [if_pos h1] at z
    by_cases h2 : r &&& enb nr ds g = 0
    · rw [if_pos h2] at z; exact base i hi (h i hi z)
    · rw [if_neg h2] at z
      have h3 : ¬ q &&& enb nr ds g = 0 := by
        intro q0
        refine h2 ((and0 _ _).mpr (fun j hj hh => ?_))
        exact (and0 _ _).mp q0 j hj ⟨h j hj hh.1, hh.2⟩
      unfold rg1
      rw [if_pos (ho h1), if_neg h3]
      rw [b_or] at z ⊢
      cases hr : bt r i with
      | true => rw [h i hi hr]; rfl
      | false => rw [hr] at z; simp at z; rw [z]; simp
  · rw [if_neg h1] at z
    exact base i hi (h i hi z)
theorem rgL_mono {nr ds : Nat → Nat} {on on' : Nat → Bool} {G : Nat} (ho : ∀ g, g < G → on g = true → on' g = true) : ∀ n g, g + n ≤ G → ∀ r q, sb32 r q → sb32 (rgL nr ds on n g r) (rgL nr ds on' n g q) := by
  intro n
  induction n with
  | zero => intro g _ r q h; exact h
  | succ n ih => intro g hg r q h; exact ih (g + 1) (by omega) _ _ (rg1_mono (ho g (by omega)) h)
theorem rgs_mono {nr ds : Nat → Nat} {on on' : Nat → Bool} {G : Nat} (ho : ∀ g, g < G → on g = true → on' g = true) : ∀ k r q, sb32 r q → sb32 (rgs G nr ds on k r) (rgs G nr ds on' k q) := by
  intro k
  induction k with
  | zero => intro r q h; exact h
  | succ k ih => intro r q h; exact ih _ _ (rgL_mono ho G 0 (by omega) r q h)
theorem ful_bt : ∀ N, N < 31 → ∀ i, i < 32 → bt (ful N) i = decide (i < N) := by decide +kernel
theorem enb_bt {nr ds : Nat → Nat} {g i : Nat} (h1 : nr g < 32) (h2 : ds g < 32) (hi : i < 32) : bt (enb nr ds g) i = (decide (i = nr g) || decide (i = ds g)) := by
  unfold enb
  rw [b_or, one_bt h1 hi, one_bt h2 hi]
theorem rg1_ful {nr ds : Nat → Nat} {on : Nat → Bool} {g N : Nat} (hN : N < 31) (h1 : nr g < N) (h2 : ds g < N) {r : Int32} (h : sb32 r (ful N)) : sb32 (rg1 nr ds on g r) (ful N) := by
  intro i hi z
  unfold rg1 at z
  split at z
  · split at z
    · exact h i hi z
    · rw [b_or, enb_bt (by omega) (by omega) hi] at z
      rw [ful_bt N hN i hi]
      cases hr : bt r i with
      | true => have := h i hi hr; rw [ful_bt N hN i hi] at this; exact this
      | false =>
        rw [hr] at z
        simp at z
        simp
        omega
  · exact h i hi z
theorem rgL_ful {nr ds : Nat → Nat} {on : Nat → Bool} {G N : Nat} (hN : N < 31) (he : ∀ g, g < G → nr g < N ∧ ds g < N) : ∀ n g, g + n ≤ G → ∀ r, sb32 r (ful N) → sb32 (rgL nr ds on n g r) (ful N) := by
  intro n
  induction n with
  | zero => intro g _ r h; exact h
  | succ n ih => intro g hg r h; exact ih (g + 1) (by omega) _ (rg1_ful hN (he g (by omega)).1 (he g (by omega)).2 h)
theorem rgs_ful {nr ds : Nat → Nat} {on : Nat → Bool} {G N : Nat} (hN : N < 31) (he : ∀ g, g < G → nr g < N ∧ ds g < N) : ∀ k r, sb32 r (ful N) → sb32 (rgs G nr ds on k r) (ful N) := by
  intro k
  induction k with
  | zero => intro r h; exact h
  | succ k ih => intro r h; exact ih _ (rgL_ful hN he G 0 (by omega) r h)
theorem one_ful {N : Nat} (hN : N < 31) (h0 : 0 < N) : sb32 (nI 1) (ful N) := by
  intro i hi z
  rw [ful_bt N hN i hi]
  rw [show nI 1 = 1 from rfl, b_1] at z
  simp at z
  simp; omega
theorem sb32_eq {r q : Int32} (h1 : sb32 r q) (h2 : sb32 q r) : r = q := by
  refine b_ext (fun i hi => ?_)
  have a1 := h1 i hi
  have a2 := h2 i hi
  cases hr : bt r i <;> cases hq : bt q i <;> simp_all
theorem hgF_mono {nr ds : Nat → Nat} {on on' : Nat → Bool} {G N : Nat} (hN : N < 31) (he : ∀ g, g < G → nr g < N ∧ ds g < N) (ho : ∀ g, g < G → on g = true → on' g = true) (h : hgF G N nr ds on) : hgF G N nr ds on' := by
  rcases Nat.eq_zero_or_pos N with z | z
  · exact Or.inl z
  · rcases h with h | h
    · omega
    · refine Or.inr (sb32_eq (rgs_ful hN he 7 _ (one_ful hN z)) ?_)
      rw [← h]
      exact rgs_mono ho 7 _ _ (fun i _ q => q)
end
section
/-! each narrowing keeps the solutions; what stands unchanged behind it is checked -/
def Spc (G : Nat) (So : (Nat → Nat) → Prop) (x t : Int32) (C : Prop) : Prop :=
  (t = -1 ∧ ∀ f, So f → ¬ inS G x f) ∨ ((wfS G t ∧ neS G t ∧ sbS G t x ∧ ∀ f, So f → inS G x f → inS G t f) ∧ (t = x → C))
theorem Spc_rf {G : Nat} {So : (Nat → Nat) → Prop} {x : Int32} {C : Prop} (hw : wfS G x) (hn : neS G x) (hC : C) : Spc G So x x C := Or.inr ⟨⟨hw, hn, sbS_rf, fun _ _ h => h⟩, fun _ => hC⟩
/-- one narrowing behind another -/
theorem Spc_tr {G : Nat} {So : (Nat → Nat) → Prop} {x t u : Int32} {C D : Prop} (hx : wfS G x) (h1 : Spc G So x t C) (h2 : wfS G t → neS G t → Spc G So t u D) (hb : t = -1 → u = -1) : Spc G So x u (C ∧ (t = x → D)) := by
  rcases h1 with ⟨e, hn⟩ | ⟨⟨a1, a2, a3, a4⟩, a5⟩
  · exact Or.inl ⟨hb e, hn⟩
  · rcases h2 a1 a2 with ⟨e, hn⟩ | ⟨⟨b1, b2, b3, b4⟩, b5⟩
    · exact Or.inl ⟨e, fun f hf q => hn f hf (a4 f hf q)⟩
    · refine Or.inr ⟨⟨b1, b2, sbS_tr b3 a3, fun f hf q => b4 f hf (a4 f hf q)⟩, fun e => ?_⟩
      have e1 : t = x := sbS_eq a1 hx a3 (by rw [← e]; exact b3)
      exact ⟨a5 e1, fun _ => b5 (e.trans e1.symm)⟩
section
variable {G N : Nat} {nr ds du : Nat → Nat} {cr : Nat → Nat → Bool}
def isC (G : Nat) (nr ds du : Nat → Nat) (x : Int32) (i : Nat) : Prop := loS nr ds x i G ≤ du i ∧ du i ≤ hiS nr ds x i G
theorem iset_bt {x : Int32} {i g b : Nat} (hb : b < 3) : bt (iset G nr ds du x i g) b = (decide (du i + hw x g ≤ b + hiS nr ds x i G) && decide (b + loS nr ds x i G ≤ du i + lw x g)) := by
  unfold iset
  rw [mk3_bt]
  rcases (show b = 0 ∨ b = 1 ∨ b = 2 by omega) with rfl | rfl | rfl <;> simp
theorem ni2_ok {x : Int32} {i : Nat} (hG : G ≤ 8) (hi : i < N) (hx : wfS G x) : ∀ n g t, g + n = G → wfS G t → neS G t → sbS G t x → (∀ f, SoB G N nr ds du cr f → inS G x f → inS G t f) →
    (ni2 G nr ds du x i n g t = -1 ∧ ∀ f, SoB G N nr ds du cr f → ¬ inS G x f) ∨ (wfS G (ni2 G nr ds du x i n g t) ∧ neS G (ni2 G nr ds du x i n g t) ∧ sbS G (ni2 G nr ds du x i n g t) x ∧ ∀ f, SoB G N nr ds du cr f → inS G x f → inS G (ni2 G nr ds du x i n g t) f) := by
  intro n
  induction n with
  | zero => intro g t _ a b c d; exact Or.inr ⟨a, b, c, d⟩
  | succ n ih =>
    intro g t hg a b c d
    have hgG : g < G := by omega
    rw [ni2]
    by_cases h1 : tc nr ds g i = true
    · rw [if_pos h1]
      have key : ∀ f, SoB G N nr ds du cr f → inS G x f → inS G (rs t g (iset G nr ds du x i g)) f := by
        intro f hf hm
        refine rs_in hG hgG (d f hf hm) ?_
        obtain ⟨h3, -⟩ := hm g hgG
        rw [iset_bt h3]
        have hs := hf.1 i hi
        have e1 := sum_ex (a := fun k => if tc nr ds k i then f k else 0) (b := fun k => if tc nr ds k i then hw x k else 0) G (fun k hk => by have := in_lo hk hm; split <;> omega) g hgG
        have e2 := sum_ex (a := fun k => if tc nr ds k i then lw x k else 0) (b := fun k => if tc nr ds k i then f k else 0) G (fun k hk => by have := in_lo hk hm; split <;> omega) g hgG
        simp only [h1, if_true] at e1 e2
        rw [hs] at e1 e2
        have e3 : du i + hw x g ≤ f g + hiS nr ds x i G := by unfold hiS; omega
        have e4 : f g + loS nr ds x i G ≤ du i + lw x g := by unfold loS; omega
        simp [e3, e4]
      by_cases h2 : dm (rs t g (iset G nr ds du x i g)) g = 0
      · rw [if_pos h2]
        exact Or.inl ⟨rfl, fun f hf hm => in_dm hgG (key f hf hm) h2⟩
      · rw [if_neg h2]
        exact ih (g + 1) _ (by omega) (rs_wf hG hgG _ a) (rs_ne hG hgG b (dm_ne h2)) (sbS_tr (rs_sb hG hgG _) c) key
    · rw [if_neg h1]
      exact ih (g + 1) t (by omega) a b c d
theorem ni_ok {x : Int32} {i : Nat} (hG : G ≤ 8) (hi : i < N) (hx : wfS G x) (hn : neS G x) : Spc G (SoB G N nr ds du cr) x (ni G nr ds du x i) (isC G nr ds du x i) := by
  unfold ni
  by_cases h : du i < loS nr ds x i G ∨ hiS nr ds x i G < du i
  · rw [if_pos h]
    refine Or.inl ⟨rfl, fun f hf hm => ?_⟩
    have hs := hf.1 i hi
    have e1 : loS nr ds x i G ≤ du i := by rw [← hs]; exact sum_le G (fun k hk => by have := in_lo hk hm; split <;> omega)
    have e2 : du i ≤ hiS nr ds x i G := by rw [← hs]; exact sum_le G (fun k hk => by have := in_lo hk hm; split <;> omega)
    omega
  · rw [if_neg h]
    rcases ni2_ok (N := N) (cr := cr) hG hi hx G 0 x (by omega) hx hn sbS_rf (fun _ _ h => h) with q | q
    · exact Or.inl q
    · exact Or.inr ⟨q, fun _ => ⟨by omega, by omega⟩⟩
theorem neg_m1 : (-1 : Int32) < 0 := by decide
theorem nis_m1 : ∀ n i, nis G nr ds du n i (-1) = -1 := by
  intro n i
  cases n with
  | zero => rfl
  | succ n => rw [nis, if_pos neg_m1]
theorem nis_ok (hG : G ≤ 8) : ∀ n i, i + n = N → ∀ x, wfS G x → neS G x → Spc G (SoB G N nr ds du cr) x (nis G nr ds du n i x) (∀ j, i ≤ j → j < N → isC G nr ds du x j) := by
  intro n
  induction n with
  | zero => intro i hi x hw hn; exact Spc_rf hw hn (fun j h1 h2 => by omega)
  | succ n ih =>
    intro i hi x hw hn
    rw [nis, if_neg (Int32.not_lt.mpr (wf_nn hG hw))]
    have h1 := ni_ok (N := N) (cr := cr) (du := du) (nr := nr) (ds := ds) hG (show i < N by omega) hw hn
    have h2 := Spc_tr hw h1 (fun a b => ih (i + 1) (by omega) _ a b) (fun e => by rw [e]; exact nis_m1 n (i + 1))
    rcases h2 with h2 | ⟨h2, h3⟩
    · exact Or.inl h2
    · refine Or.inr ⟨h2, fun e j h4 h5 => ?_⟩
      obtain ⟨c1, c2⟩ := h3 e
      by_cases ej : j = i
      · rw [ej]; exact c1
      · rcases h1 with ⟨q, -⟩ | ⟨⟨q1, q2, q3, q4⟩, q5⟩
        · exfalso
          rw [q, nis_m1] at e
          have := wf_nn hG hw
          rw [← e] at this
          exact m1_neg this
        · have h6 := ih (i + 1) (by omega) _ q1 q2
          rcases h6 with ⟨z, -⟩ | ⟨⟨z1, z2, z3, z4⟩, z5⟩
          · exfalso
            rw [z] at e
            have := wf_nn hG hw
            rw [← e] at this
            exact m1_neg this
          · have e1 : ni G nr ds du x i = x := sbS_eq q1 hw q3 (by rw [e] at z3; exact z3)
            have := c2 e1 j (by omega) h5
            rw [e1] at this
            exact this
/-- crossings -/
def on0 (x : Int32) (h : Nat) : Prop := pb x h 1 = false ∧ pb x h 2 = false
theorem rs1_bt {b : Nat} (hb : b < 3) : bt (nI 1) b = decide (b = 0) := by rw [show nI 1 = 1 from rfl, b_1]
theorem rs1_on0 (hG : G ≤ 8) {x : Int32} {h : Nat} (hh : h < G) (e : rs x h (nI 1) = x) : on0 x h := by
  constructor
  · have := pb_rs x (g := h) (h := h) (b := 1) (nI 1) (by omega) (by omega) (by omega)
    rw [e, if_pos rfl, rs1_bt (by omega)] at this
    simpa using this
  · have := pb_rs x (g := h) (h := h) (b := 2) (nI 1) (by omega) (by omega) (by omega)
    rw [e, if_pos rfl, rs1_bt (by omega)] at this
    simpa using this
theorem nc2_ok (hG : G ≤ 8) {g : Nat} (hg : g < G) {k : Int32 → Int32} {K : Int32 → Prop} (hk : ∀ u, wfS G u → neS G u → Spc G (SoB G N nr ds du cr) u (k u) (K u)) : ∀ n h, h + n = G → ∀ t, wfS G t → neS G t → pb t g 0 = false → cr g g = false →
    Spc G (SoB G N nr ds du cr) t (nc2 cr g k n h t) ((∀ j, h ≤ j → j < G → cr g j = true → on0 t j) ∧ K t) := by
  intro n
  induction n with
  | zero =>
    intro h hh t hw hn _ _
    rw [nc2]
    rcases hk t hw hn with q | ⟨q1, q2⟩
    · exact Or.inl q
    · exact Or.inr ⟨q1, fun e => ⟨fun j h1 h2 => by omega, q2 e⟩⟩
  | succ n ih =>
    intro h hh t hw hn hp hgg
    have hhG : h < G := by omega
    rw [nc2]
    by_cases h1 : cr g h = true
    · rw [if_pos h1]
      have key : ∀ f, SoB G N nr ds du cr f → inS G t f → inS G (rs t h (nI 1)) f := by
        intro f hf hm
        refine rs_in hG hhG hm ?_
        obtain ⟨h3, h4⟩ := hm g hg
        have h5 : f g ≠ 0 := by intro e; rw [e, hp] at h4; cases h4
        have h6 : f h = 0 := (hf.2.1 g h hg hhG h1).resolve_left h5
        rw [h6, rs1_bt (by omega)]; rfl
      by_cases h2 : dm (rs t h (nI 1)) h = 0
      · rw [if_pos h2]
        exact Or.inl ⟨rfl, fun f hf hm => in_dm hhG (key f hf hm) h2⟩
      · rw [if_neg h2]
        have hne : h ≠ g := by intro e; rw [e, hgg] at h1; cases h1
        have a1 := rs_wf hG hhG (nI 1) hw
        have a2 := rs_ne hG hhG hn (dm_ne h2)
        have a3 : sbS G (rs t h (nI 1)) t := rs_sb hG hhG (nI 1)
        have a4 : pb (rs t h (nI 1)) g 0 = false := by rw [pb_rs t (nI 1) (by omega) (by omega) (by omega), if_neg (Ne.symm hne)]; exact hp
        rcases ih (h + 1) (by omega) _ a1 a2 a4 hgg with ⟨q1, q2⟩ | ⟨⟨q1, q2, q3, q4⟩, q5⟩
        · exact Or.inl ⟨q1, fun f hf hm => q2 f hf (key f hf hm)⟩
        · refine Or.inr ⟨⟨q1, q2, sbS_tr q3 a3, fun f hf hm => q4 f hf (key f hf hm)⟩, fun e => ?_⟩
          have e1 : rs t h (nI 1) = t := sbS_eq a1 hw a3 (by rw [e] at q3; exact q3)
          obtain ⟨c1, c2⟩ := q5 (e.trans e1.symm)
          rw [e1] at c1 c2
          refine ⟨fun j h3 h4 h5 => ?_, c2⟩
          by_cases ej : j = h
          · rw [ej]; exact rs1_on0 hG hhG e1
          · exact c1 j (by omega) h4 h5
    · rw [if_neg h1]
      rcases ih (h + 1) (by omega) t hw hn hp hgg with q | ⟨q1, q2⟩
      · exact Or.inl q
      · refine Or.inr ⟨q1, fun e => ?_⟩
        obtain ⟨c1, c2⟩ := q2 e
        refine ⟨fun j h3 h4 h5 => ?_, c2⟩
        by_cases ej : j = h
        · rw [ej] at h5; exact absurd h5 h1
        · exact c1 j (by omega) h4 h5
def crC (G : Nat) (cr : Nat → Nat → Bool) (x : Int32) (g : Nat) : Prop := pb x g 0 = false → ∀ j, j < G → cr g j = true → on0 x j
theorem nc_ok (hG : G ≤ 8) (hs : ∀ g, cr g g = false) : ∀ n g, g + n = G → ∀ x, wfS G x → neS G x → Spc G (SoB G N nr ds du cr) x (nc G cr n g x) (∀ j, g ≤ j → j < G → crC G cr x j) := by
  intro n
  induction n with
  | zero => intro g hg x hw hn; exact Spc_rf hw hn (fun j h1 h2 => by omega)
  | succ n ih =>
    intro g hg x hw hn
    rw [nc]
    by_cases h1 : pb x g 0 = true
    · rw [if_pos h1]
      rcases ih (g + 1) (by omega) x hw hn with q | ⟨q1, q2⟩
      · exact Or.inl q
      · refine Or.inr ⟨q1, fun e j h2 h3 => ?_⟩
        by_cases ej : j = g
        · subst ej; intro h4; rw [h1] at h4; cases h4
        · exact q2 e j (by omega) h3
    · rw [if_neg h1]
      have h1' : pb x g 0 = false := by cases hq : pb x g 0 with | true => exact absurd hq h1 | false => rfl
      rcases nc2_ok (N := N) (nr := nr) (ds := ds) (du := du) (cr := cr) hG (show g < G by omega) (k := nc G cr n (g + 1)) (K := fun u => ∀ j, g + 1 ≤ j → j < G → crC G cr u j) (fun u hu hu2 => ih (g + 1) (by omega) u hu hu2) G 0 (by omega) x hw hn h1' (hs g) with q | ⟨q1, q2⟩
      · exact Or.inl q
      · refine Or.inr ⟨q1, fun e j h2 h3 => ?_⟩
        obtain ⟨c1, c2⟩ := q2 e
        by_cases ej : j = g
        · subst ej; intro _ k hk hc; exact c1 k (by omega) hk hc
        · exact c2 j (by omega) h3
/-- cuts -/
theorem onX_in {x wo : Int32} {f : Nat → Nat} (hm : inS G x f) {g : Nat} (hg : g < G) (hw : ¬ nI g = wo) (h : decide (0 < f g) = true) : onX x wo g = true := by
  obtain ⟨h1, h2⟩ := hm g hg
  have h3 : 0 < f g := of_decide_eq_true h
  unfold onX
  rw [decide_eq_false hw]
  rcases (show f g = 1 ∨ f g = 2 by omega) with e | e <;> (rw [e] at h2; rw [h2]; simp)
theorem nct2_ok (hG : G ≤ 8) (hN : N ≤ 7) (he : ∀ g, g < G → nr g < N ∧ ds g < N) : ∀ n g, g + n = G → ∀ x, wfS G x → neS G x →
    (wfS G (nct2 G N nr ds n g x) ∧ neS G (nct2 G N nr ds n g x) ∧ sbS G (nct2 G N nr ds n g x) x ∧ ∀ f, SoB G N nr ds du cr f → inS G x f → inS G (nct2 G N nr ds n g x) f) := by
  intro n
  induction n with
  | zero => intro g hg x hw hn; exact ⟨hw, hn, sbS_rf, fun _ _ h => h⟩
  | succ n ih =>
    intro g hg x hw hn
    have hgG : g < G := by omega
    rw [nct2]
    by_cases h1 : pb x g 0 = true
    · rw [if_pos h1]
      by_cases h2 : dm x g = nI 1
      · rw [if_pos h2]; exact ih (g + 1) (by omega) x hw hn
      · rw [if_neg h2]
        by_cases h3 : hang G N nr ds x (nI g) = true
        · rw [if_pos h3]; exact ih (g + 1) (by omega) x hw hn
        · rw [if_neg h3]
          have b6 : ∀ b, b < 3 → bt (nI 6) b = decide (b ≠ 0) := by decide +kernel
          have key : ∀ f, SoB G N nr ds du cr f → inS G x f → inS G (rs x g (nI 6)) f := by
            intro f hf hm
            obtain ⟨h4, h5⟩ := hm g hgG
            refine rs_in hG hgG hm ?_
            rw [b6 _ h4]
            refine decide_eq_true (fun e => h3 ((hang_iff G N nr ds x (nI g)).mpr ?_))
            refine hgF_mono (by omega) he (fun k hk q => ?_) hf.2.2
            refine onX_in hm hk (fun z => ?_) q
            have z1 : k = g := (nI_eq (by omega) (by omega)).mp z
            rw [z1, e] at q
            simp at q
          have a2 : neS G (rs x g (nI 6)) := by
            refine rs_ne hG hgG hn ?_
            have h4 : ¬ (pb x g 0 && !pb x g 1 && !pb x g 2) = true := fun q => h2 ((mk3_1 _ _ _).mpr q)
            rw [h1] at h4
            cases h5 : pb x g 1 with
            | true => exact ⟨1, by omega, by rw [pb_rs x (nI 6) (by omega) (by omega) (by omega), if_pos rfl, h5, b6 1 (by omega)]; rfl⟩
            | false =>
              cases h6 : pb x g 2 with
              | true => exact ⟨2, by omega, by rw [pb_rs x (nI 6) (by omega) (by omega) (by omega), if_pos rfl, h6, b6 2 (by omega)]; rfl⟩
              | false => rw [h5, h6] at h4; exact absurd rfl h4
          obtain ⟨q1, q2, q3, q4⟩ := ih (g + 1) (by omega) _ (rs_wf hG hgG (nI 6) hw) a2
          exact ⟨q1, q2, sbS_tr q3 (rs_sb hG hgG _), fun f hf hm => q4 f hf (key f hf hm)⟩
    · rw [if_neg h1]; exact ih (g + 1) (by omega) x hw hn
theorem nct_ok (hG : G ≤ 8) (hN : N ≤ 7) (he : ∀ g, g < G → nr g < N ∧ ds g < N) {x : Int32} (hw : wfS G x) (hn : neS G x) : Spc G (SoB G N nr ds du cr) x (nct G N nr ds x) (hgF G N nr ds (onX x (-1))) := by
  unfold nct
  by_cases h : hang G N nr ds x (-1) = true
  · rw [if_pos h]
    exact Or.inr ⟨nct2_ok hG hN he G 0 (by omega) x hw hn, fun _ => (hang_iff G N nr ds x (-1)).mp h⟩
  · rw [if_neg h]
    refine Or.inl ⟨rfl, fun f hf hm => h ((hang_iff G N nr ds x (-1)).mpr ?_)⟩
    refine hgF_mono (by omega) he (fun k hk q => onX_in hm hk (fun z => ?_) q) hf.2.2
    have := nI_pos' (n := k) (by omega)
    rw [z] at this
    exact m1_neg this
end
end
section
/-! narrowing to its end, and its leaves -/
section
variable {G N : Nat} {nr ds du : Nat → Nat} {cr : Nat → Nat → Bool}
def Chk (G N : Nat) (nr ds du : Nat → Nat) (cr : Nat → Nat → Bool) (x : Int32) : Prop := (∀ i, i < N → isC G nr ds du x i) ∧ (∀ g, g < G → crC G cr x g) ∧ hgF G N nr ds (onX x (-1))
def Ins (G N : Nat) (nr ds : Nat → Nat) (cr : Nat → Nat → Bool) : Prop := G ≤ 8 ∧ N ≤ 7 ∧ (∀ g, g < G → nr g < N ∧ ds g < N) ∧ ∀ g, cr g g = false
theorem Spc_nn {So : (Nat → Nat) → Prop} (hG : G ≤ 8) {x t : Int32} {C : Prop} (h : Spc G So x t C) : (t = -1 ∧ ¬ 0 ≤ t) ∨ (0 ≤ t ∧ wfS G t ∧ neS G t) := by
  rcases h with ⟨e, -⟩ | ⟨⟨a, b, -⟩, -⟩
  · exact Or.inl ⟨e, by rw [e]; exact m1_neg⟩
  · exact Or.inr ⟨wf_nn hG a, a, b⟩
theorem nw1_ok (hI : Ins G N nr ds cr) {x : Int32} (hw : wfS G x) (hn : neS G x) : Spc G (SoB G N nr ds du cr) x (nw1 G N nr ds du cr x) (Chk G N nr ds du cr x) := by
  obtain ⟨hG, hN, he, hs⟩ := hI
  have h1 := nis_ok (N := N) (nr := nr) (ds := ds) (du := du) (cr := cr) hG N 0 (by omega) x hw hn
  unfold nw1
  generalize nis G nr ds du N 0 x = t1 at h1
  have h2 : Spc G (SoB G N nr ds du cr) x (if 0 ≤ t1 then nc G cr G 0 t1 else t1) ((∀ i, i < N → isC G nr ds du x i) ∧ (∀ g, g < G → crC G cr x g)) := by
    rcases Spc_nn hG h1 with ⟨e, q⟩ | ⟨q, a, b⟩
    · rw [if_neg q]
      rcases h1 with z | ⟨⟨z, -⟩, -⟩
      · exact Or.inl z
      · exact absurd (wf_nn hG z) q
    · rw [if_pos q]
      have h3 := Spc_tr hw h1 (fun a b => nc_ok (N := N) (nr := nr) (ds := ds) (du := du) (cr := cr) hG hs G 0 (by omega) t1 a b) (fun e => by rw [e] at q; exact absurd q m1_neg)
      rcases h3 with z | ⟨z1, z2⟩
      · exact Or.inl z
      · refine Or.inr ⟨z1, fun e => ?_⟩
        obtain ⟨c1, c2⟩ := z2 e
        obtain ⟨d1, d2, d3, -⟩ := z1
        rcases nc_ok (N := N) (nr := nr) (ds := ds) (du := du) (cr := cr) hG hs G 0 (by omega) t1 a b with ⟨y, -⟩ | ⟨⟨-, -, y3, -⟩, -⟩
        · rw [y] at e; rw [← e] at hw; exact absurd (wf_nn hG hw) m1_neg
        · rcases h1 with ⟨y, -⟩ | ⟨⟨-, -, y4, -⟩, -⟩
          · rw [y] at q; exact absurd q m1_neg
          · have e1 : t1 = x := sbS_eq a hw y4 (by rw [e] at y3; exact y3)
            have c3 := c2 e1
            rw [e1] at c3
            exact ⟨fun i hi => c1 i (by omega) hi, fun g hg => c3 g (by omega) hg⟩
  show Spc G (SoB G N nr ds du cr) x (if 0 ≤ (if 0 ≤ t1 then nc G cr G 0 t1 else t1) then nct G N nr ds (if 0 ≤ t1 then nc G cr G 0 t1 else t1) else (if 0 ≤ t1 then nc G cr G 0 t1 else t1)) _
  generalize (if 0 ≤ t1 then nc G cr G 0 t1 else t1) = t2 at h2
  rcases Spc_nn hG h2 with ⟨e, q⟩ | ⟨q, a, b⟩
  · rw [if_neg q]
    rcases h2 with z | ⟨⟨z, -⟩, -⟩
    · exact Or.inl z
    · exact absurd (wf_nn hG z) q
  · rw [if_pos q]
    have h4 := nct_ok (du := du) (cr := cr) hG hN he a b
    have h3 := Spc_tr hw h2 (fun a b => nct_ok (du := du) (cr := cr) hG hN he a b) (fun e => by rw [e] at q; exact absurd q m1_neg)
    rcases h3 with z | ⟨z1, z2⟩
    · exact Or.inl z
    · refine Or.inr ⟨z1, fun e => ?_⟩
      obtain ⟨⟨c1, c2⟩, c3⟩ := z2 e
      rcases h4 with ⟨y, -⟩ | ⟨⟨-, -, y3, -⟩, -⟩
      · rw [y] at e; rw [← e] at hw; exact absurd (wf_nn hG hw) m1_neg
      · rcases h2 with ⟨y, -⟩ | ⟨⟨-, -, y4, -⟩, -⟩
        · rw [y] at q; exact absurd q m1_neg
        · have e1 : t2 = x := sbS_eq a hw y4 (by rw [e] at y3; exact y3)
          have c4 := c3 e1
          rw [e1] at c4
          exact ⟨c1, c2, c4⟩
/-- how many possibilities -/
def dc (x : Int32) (g : Nat) : Nat := (if pb x g 0 then 1 else 0) + (if pb x g 1 then 1 else 0) + (if pb x g 2 then 1 else 0)
def cntS (G : Nat) (x : Int32) : Nat := sumT (dc x) G
theorem dc_le (x : Int32) (g : Nat) : dc x g ≤ 3 := by unfold dc; split <;> split <;> split <;> omega
theorem dc_sb {x y : Int32} {g : Nat} (hg : g < G) (h : sbS G y x) : dc y g ≤ dc x g := by
  have h0 := h g 0 hg (by omega)
  have h1 := h g 1 hg (by omega)
  have h2 := h g 2 hg (by omega)
  unfold dc
  cases a0 : pb y g 0 <;> cases a1 : pb y g 1 <;> cases a2 : pb y g 2 <;> simp_all
  all_goals (repeat' split) <;> omega
theorem dc_eq {x y : Int32} {g : Nat} (hg : g < G) (h : sbS G y x) (e : dc y g = dc x g) : ∀ b, b < 3 → pb x g b = true → pb y g b = true := by
  have h0 := h g 0 hg (by omega)
  have h1 := h g 1 hg (by omega)
  have h2 := h g 2 hg (by omega)
  intro b hb
  unfold dc at e
  rcases (show b = 0 ∨ b = 1 ∨ b = 2 by omega) with rfl | rfl | rfl <;>
    (cases a0 : pb y g 0 <;> cases a1 : pb y g 1 <;> cases a2 : pb y g 2 <;> cases b0 : pb x g 0 <;> cases b1 : pb x g 1 <;> cases b2 : pb x g 2 <;> simp_all)
theorem sum_eq_all {a b : Nat → Nat} : ∀ n, (∀ g, g < n → a g ≤ b g) → sumT a n = sumT b n → ∀ g, g < n → a g = b g := by
  intro n h e g hg
  have := sum_ex n h g hg
  have := h g hg
  omega
theorem cnt_lt (hG : G ≤ 8) {x y : Int32} (hx : wfS G x) (hy : wfS G y) (h : sbS G y x) (hne : y ≠ x) : cntS G y < cntS G x := by
  have h1 : cntS G y ≤ cntS G x := sum_le G (fun g hg => dc_sb hg h)
  rcases Nat.lt_or_ge (cntS G y) (cntS G x) with q | q
  · exact q
  · exfalso
    have e := sum_eq_all G (fun g hg => dc_sb hg h) (show sumT (dc y) G = sumT (dc x) G by unfold cntS at q h1; omega)
    exact hne (sbS_eq hy hx h (fun g b hg hb z => dc_eq hg h (e g hg) b hb z))
theorem cnt_le (hG : G ≤ 8) (x : Int32) : cntS G x ≤ 24 := by
  have := sumT_le (f := dc x) (dc_le x) G
  unfold cntS
  omega
/-- narrowing to its end -/
def Nod (G N : Nat) (nr ds du : Nat → Nat) (cr : Nat → Nat → Bool) (x : Int32) : Prop := wfS G x ∧ neS G x ∧ Chk G N nr ds du cr x
theorem nw_ok (hI : Ins G N nr ds cr) : ∀ k x, wfS G x → neS G x → cntS G x < k →
    (nw G N nr ds du cr k x = -1 ∧ ∀ f, SoB G N nr ds du cr f → ¬ inS G x f) ∨ (Nod G N nr ds du cr (nw G N nr ds du cr k x) ∧ sbS G (nw G N nr ds du cr k x) x ∧ ∀ f, SoB G N nr ds du cr f → inS G x f → inS G (nw G N nr ds du cr k x) f) := by
  intro k
  induction k with
  | zero => intro x _ _ h; omega
  | succ k ih =>
    intro x hw hn hc
    have h1 := nw1_ok (du := du) hI hw hn
    rw [nw]
    generalize nw1 G N nr ds du cr x = t at h1
    rcases h1 with ⟨e, q⟩ | ⟨⟨a1, a2, a3, a4⟩, a5⟩
    · rw [if_neg (by rw [e]; exact m1_neg)]
      exact Or.inl ⟨rfl, q⟩
    · rw [if_pos (wf_nn hI.1 a1)]
      by_cases e : t = x
      · rw [if_pos e]
        have := a5 e
        rw [← e] at this
        exact Or.inr ⟨⟨a1, a2, this⟩, a3, a4⟩
      · rw [if_neg e]
        have hlt := cnt_lt hI.1 hw a1 a3 e
        rcases ih t a1 a2 (by omega) with ⟨e2, q⟩ | ⟨b1, b2, b3⟩
        · exact Or.inl ⟨e2, fun f hf hm => q f hf (a4 f hf hm)⟩
        · exact Or.inr ⟨b1, sbS_tr b2 a3, fun f hf hm => b3 f hf (a4 f hf hm)⟩
theorem nw30 (hI : Ins G N nr ds cr) {x : Int32} (hw : wfS G x) (hn : neS G x) :
    (¬ 0 ≤ nw G N nr ds du cr 30 x ∧ ∀ f, SoB G N nr ds du cr f → ¬ inS G x f) ∨ (0 ≤ nw G N nr ds du cr 30 x ∧ Nod G N nr ds du cr (nw G N nr ds du cr 30 x) ∧ sbS G (nw G N nr ds du cr 30 x) x ∧ ∀ f, SoB G N nr ds du cr f → inS G x f → inS G (nw G N nr ds du cr 30 x) f) := by
  have h := cnt_le hI.1 x
  rcases nw_ok (du := du) hI 30 x hw hn (by omega) with ⟨e, q⟩ | ⟨a, b, c⟩
  · exact Or.inl ⟨by rw [e]; exact m1_neg, q⟩
  · exact Or.inr ⟨wf_nn hI.1 a.1, a, b, c⟩
/-- leaves -/
def opn (x : Int32) (g : Nat) : Bool := (pb x g 0 && pb x g 1) || (pb x g 0 && pb x g 2) || (pb x g 1 && pb x g 2)
theorem opn_f {x : Int32} {g : Nat} (h : ∃ b, b < 3 ∧ pb x g b = true) (ho : opn x g = false) : ∀ b, b < 3 → (pb x g b = true ↔ b = lw x g) := by
  obtain ⟨c, hc, h⟩ := h
  intro b hb
  unfold opn at ho
  unfold lw
  rcases (show b = 0 ∨ b = 1 ∨ b = 2 by omega) with rfl | rfl | rfl <;> rcases (show c = 0 ∨ c = 1 ∨ c = 2 by omega) with rfl | rfl | rfl <;>
    (cases a0 : pb x g 0 <;> cases a1 : pb x g 1 <;> cases a2 : pb x g 2 <;> simp_all)
theorem lw_hw {x : Int32} {g : Nat} (h : ∃ b, b < 3 ∧ pb x g b = true) (ho : opn x g = false) : hw x g = lw x g := by
  obtain ⟨c, hc, h⟩ := h
  unfold opn at ho
  unfold lw hw
  rcases (show c = 0 ∨ c = 1 ∨ c = 2 by omega) with rfl | rfl | rfl <;>
    (cases a0 : pb x g 0 <;> cases a1 : pb x g 1 <;> cases a2 : pb x g 2 <;> simp_all)
theorem leaf_in {x : Int32} (hn : neS G x) (ho : ∀ g, g < G → opn x g = false) {f : Nat → Nat} : inS G x f ↔ ∀ g, g < G → f g = lw x g := by
  constructor
  · intro h g hg
    obtain ⟨h1, h2⟩ := h g hg
    exact (opn_f (hn g hg) (ho g hg) (f g) h1).mp h2
  · intro h g hg
    have h1 := lw_le x g
    rw [h g hg]
    exact ⟨by omega, (opn_f (hn g hg) (ho g hg) _ (by omega)).mpr rfl⟩
theorem leaf_sol {x : Int32} (hx : Nod G N nr ds du cr x) (ho : ∀ g, g < G → opn x g = false) {f : Nat → Nat} (hf : ∀ g, g < G → f g = lw x g) (hG : G ≤ 8) : SoB G N nr ds du cr f := by
  obtain ⟨hw, hn, c1, c2, c3⟩ := hx
  refine ⟨fun i hi => ?_, fun g h hg hh hc => ?_, ?_⟩
  · obtain ⟨d1, d2⟩ := c1 i hi
    have e1 : loS nr ds x i G = sumT (fun g => if tc nr ds g i then f g else 0) G := sum_eq G (fun g hg => by rw [hf g hg])
    have e2 : hiS nr ds x i G = sumT (fun g => if tc nr ds g i then f g else 0) G := sum_eq G (fun g hg => by rw [hf g hg, lw_hw (hn g hg) (ho g hg)])
    omega
  · rw [hf g hg, hf h hh]
    cases hq : pb x g 0 with
    | true => left; rw [lw, hq]; rfl
    | false =>
      right
      obtain ⟨z1, z2⟩ := c2 g hg hq h hh hc
      obtain ⟨b, hb, z3⟩ := hn h hh
      have : pb x h 0 = true := by
        rcases (show b = 0 ∨ b = 1 ∨ b = 2 by omega) with rfl | rfl | rfl
        · exact z3
        · rw [z1] at z3; cases z3
        · rw [z2] at z3; cases z3
      rw [lw, this]; rfl
  · rcases c3 with z | z
    · exact Or.inl z
    · right
      rw [← z]
      have : ∀ on on' : Nat → Bool, (∀ g, g < G → on g = on' g) → ∀ n g, g + n ≤ G → ∀ r, rgL nr ds on n g r = rgL nr ds on' n g r := by
        intro on on' h n
        induction n with
        | zero => intro g _ r; rfl
        | succ n ih => intro g hg r; rw [rgL, rgL, ih (g + 1) (by omega)]; simp only [rg1, h g (by omega)]
      have h2 : ∀ on on' : Nat → Bool, (∀ g, g < G → on g = on' g) → ∀ k r, rgs G nr ds on k r = rgs G nr ds on' k r := by
        intro on on' h k
        induction k with
        | zero => intro r; rfl
        | succ k ih => intro r; rw [rgs, rgs, this on on' h G 0 (by omega), ih]
      refine h2 _ _ (fun g hg => ?_) 7 _
      have e0 : ¬ nI g = -1 := by
        intro e
        have := nI_pos' (n := g) (by omega)
        rw [e] at this
        exact m1_neg this
      have h3 := opn_f (hn g hg) (ho g hg)
      have h4 := lw_le x g
      rw [onX, decide_eq_false e0, hf g hg]
      rcases (show lw x g = 0 ∨ lw x g = 1 ∨ lw x g = 2 by omega) with e | e | e
      · have q1 : pb x g 1 = false := by cases hq : pb x g 1 with | false => rfl | true => have := (h3 1 (by omega)).mp hq; omega
        have q2 : pb x g 2 = false := by cases hq : pb x g 2 with | false => rfl | true => have := (h3 2 (by omega)).mp hq; omega
        simp [e, q1, q2]
      · have q1 : pb x g 1 = true := (h3 1 (by omega)).mpr e.symm
        simp [e, q1]
      · have q2 : pb x g 2 = true := (h3 2 (by omega)).mpr e.symm
        simp [e, q2]
theorem fo_ok {x : Int32} : ∀ n g, g + n = G → (fo x n g = -1 ∧ ∀ j, g ≤ j → j < G → opn x j = false) ∨ ∃ k, g ≤ k ∧ k < G ∧ fo x n g = nI k ∧ opn x k = true ∧ ∀ j, g ≤ j → j < k → opn x j = false := by
  intro n
  induction n with
  | zero => intro g hg; exact Or.inl ⟨rfl, fun j h1 h2 => by omega⟩
  | succ n ih =>
    intro g hg
    rw [fo]
    have hm := mk3_op (pb x g 0) (pb x g 1) (pb x g 2)
    by_cases h : dm x g &&& (dm x g - nI 1) = 0
    · rw [if_pos h]
      have ho : opn x g = false := hm.mp h
      rcases ih (g + 1) (by omega) with ⟨a, b⟩ | ⟨k, h1, h2, h3, h4, h5⟩
      · refine Or.inl ⟨a, fun j h1 h2 => ?_⟩
        by_cases e : j = g
        · rw [e]; exact ho
        · exact b j (by omega) h2
      · refine Or.inr ⟨k, by omega, h2, h3, h4, fun j h6 h7 => ?_⟩
        by_cases e : j = g
        · rw [e]; exact ho
        · exact h5 j (by omega) h7
    · rw [if_neg h]
      refine Or.inr ⟨g, Nat.le_refl _, by omega, rfl, ?_, fun j h1 h2 => by omega⟩
      cases hq : opn x g with
      | true => rfl
      | false => exact absurd (hm.mpr hq) h
end
end
section
/-! the search finds every solution, in order -/
theorem filt0 {α : Type} {l : List α} {p : α → Bool} (h : ∀ a ∈ l, p a = false) : l.filter p = [] := by
  rw [List.filter_eq_nil_iff]
  intro a ha q
  rw [h a ha] at q
  cases q
theorem asg_split : ∀ n g, g < n → ∀ (Q : List Nat → Bool) (d : Nat → Nat), (∀ a ∈ asg n, Q a = true → ∀ j, j < g → fnL a j = d j) → (asg n).filter Q = (asg n).filter (fun a => Q a && fnL a g == 0) ++ ((asg n).filter (fun a => Q a && fnL a g == 1) ++ (asg n).filter (fun a => Q a && fnL a g == 2)) := by
  intro n
  induction n with
  | zero => intro g hg; omega
  | succ n ih =>
    intro g hg Q d hQ
    cases g with
    | zero =>
      have ef : (asg n).filter (fun _ => false) = [] := filt0 (fun _ _ => rfl)
      simp only [asg, List.filter_append, List.filter_map, Function.comp_def, fnL_cons, cnF]
      simp [ef]
    | succ g =>
      have hmem : ∀ i, i < 3 → ∀ a ∈ asg n, i :: a ∈ asg (n + 1) := by
        intro i hi a ha
        simp only [asg, List.mem_append, List.mem_map]
        rcases (show i = 0 ∨ i = 1 ∨ i = 2 by omega) with rfl | rfl | rfl
        · exact Or.inl ⟨a, ha, rfl⟩
        · exact Or.inr (Or.inl ⟨a, ha, rfl⟩)
        · exact Or.inr (Or.inr ⟨a, ha, rfl⟩)
      have hz : ∀ i, i < 3 → i ≠ d 0 → ∀ a ∈ asg n, Q (i :: a) = false := by
        intro i hi hne a ha
        cases hq : Q (i :: a) with
        | false => rfl
        | true => exact absurd (hQ _ (hmem i hi a ha) hq 0 (by omega)) hne
      have hv : ∀ i, i < 3 → (asg n).filter (fun a => Q (i :: a)) = (asg n).filter (fun a => Q (i :: a) && fnL a g == 0) ++ ((asg n).filter (fun a => Q (i :: a) && fnL a g == 1) ++ (asg n).filter (fun a => Q (i :: a) && fnL a g == 2)) := by
        intro i hi
        exact ih g (by omega) (fun a => Q (i :: a)) (fun j => d (j + 1)) (fun a ha hq j hj => hQ _ (hmem i hi a ha) hq (j + 1) (by omega))
      have e0 : ∀ i, i < 3 → i ≠ d 0 → ∀ R : List Nat → Bool, (asg n).filter (fun a => Q (i :: a) && R a) = [] := fun i hi hne R => filt0 (fun a ha => by rw [hz i hi hne a ha]; rfl)
      have e1 : ∀ i, i < 3 → i ≠ d 0 → (asg n).filter (fun a => Q (i :: a)) = [] := fun i hi hne => filt0 (fun a ha => hz i hi hne a ha)
      simp only [asg, List.filter_append, List.filter_map, Function.comp_def, fnL_cons, cnF]
      by_cases h0 : 0 = d 0
      · rw [e1 1 (by omega) (by omega), e1 2 (by omega) (by omega)]
        simp only [e0 1 (by omega) (by omega), e0 2 (by omega) (by omega)]
        rw [hv 0 (by omega)]
        simp
      · by_cases h1 : 1 = d 0
        · rw [e1 0 (by omega) (by omega), e1 2 (by omega) (by omega)]
          simp only [e0 0 (by omega) (by omega), e0 2 (by omega) (by omega)]
          rw [hv 1 (by omega)]
          simp
        · by_cases h2 : 2 = d 0
          · rw [e1 0 (by omega) (by omega), e1 1 (by omega) (by omega)]
            simp only [e0 0 (by omega) (by omega), e0 1 (by omega) (by omega)]
            rw [hv 2 (by omega)]
            simp
          · rw [e1 0 (by omega) h0, e1 1 (by omega) h1, e1 2 (by omega) h2]
            simp only [e0 0 (by omega) h0, e0 1 (by omega) h1, e0 2 (by omega) h2]
            simp
theorem asg_uniq : ∀ n (Q : List Nat → Bool) (d : Nat → Nat), (∀ j, j < n → d j ≤ 2) → (∀ a ∈ asg n, Q a = true ↔ ∀ j, j < n → fnL a j = d j) → ∃ a0, (asg n).filter Q = [a0] ∧ ∀ j, j < n → fnL a0 j = d j := by
  intro n
  induction n with
  | zero =>
    intro Q d _ hQ
    refine ⟨[], ?_, fun j hj => by omega⟩
    have : Q [] = true := (hQ [] (by simp [asg])).mpr (fun j hj => by omega)
    simp [asg, this]
  | succ n ih =>
    intro Q d hd hQ
    have hmem : ∀ i, i < 3 → ∀ a ∈ asg n, i :: a ∈ asg (n + 1) := by
      intro i hi a ha
      simp only [asg, List.mem_append, List.mem_map]
      rcases (show i = 0 ∨ i = 1 ∨ i = 2 by omega) with rfl | rfl | rfl
      · exact Or.inl ⟨a, ha, rfl⟩
      · exact Or.inr (Or.inl ⟨a, ha, rfl⟩)
      · exact Or.inr (Or.inr ⟨a, ha, rfl⟩)
    have e1 : ∀ i, i < 3 → i ≠ d 0 → (asg n).filter (fun a => Q (i :: a)) = [] := by
      intro i hi hne
      refine filt0 (fun a ha => ?_)
      cases hq : Q (i :: a) with
      | false => rfl
      | true => exact absurd ((hQ _ (hmem i hi a ha)).mp hq 0 (by omega)) hne
    have hv : ∀ i, i < 3 → i = d 0 → ∃ a0, (asg n).filter (fun a => Q (i :: a)) = [a0] ∧ ∀ j, j < n → fnL a0 j = d (j + 1) := by
      intro i hi e
      refine ih (fun a => Q (i :: a)) (fun j => d (j + 1)) (fun j hj => hd (j + 1) (by omega)) (fun a ha => ?_)
      rw [hQ _ (hmem i hi a ha)]
      constructor
      · intro h j hj; exact h (j + 1) (by omega)
      · intro h j hj
        cases j with
        | zero => rw [← e]; rfl
        | succ j => exact h j (by omega)
    simp only [asg, List.filter_append, List.filter_map, Function.comp_def]
    have h2 := hd 0 (by omega)
    have fin : ∀ i a0, i = d 0 → (∀ j, j < n → fnL a0 j = d (j + 1)) → ∀ j, j < n + 1 → fnL (i :: a0) j = d j := by
      intro i a0 e h j hj
      cases j with
      | zero => rw [← e]; rfl
      | succ j => exact h j (by omega)
    rcases (show 0 = d 0 ∨ 1 = d 0 ∨ 2 = d 0 by omega) with e | e | e
    · obtain ⟨a0, q1, q2⟩ := hv 0 (by omega) e
      exact ⟨0 :: a0, by rw [e1 1 (by omega) (by omega), e1 2 (by omega) (by omega), q1]; rfl, fin 0 a0 e q2⟩
    · obtain ⟨a0, q1, q2⟩ := hv 1 (by omega) e
      exact ⟨1 :: a0, by rw [e1 0 (by omega) (by omega), e1 2 (by omega) (by omega), q1]; rfl, fin 1 a0 e q2⟩
    · obtain ⟨a0, q1, q2⟩ := hv 2 (by omega) e
      exact ⟨2 :: a0, by rw [e1 0 (by omega) (by omega), e1 1 (by omega) (by omega), q1]; rfl, fin 2 a0 e q2⟩
def inB (G : Nat) (x : Int32) (f : Nat → Nat) : Bool := (List.range G).all (fun g => decide (f g < 3) && pb x g (f g))
theorem inB_iff {G : Nat} {x : Int32} {f : Nat → Nat} : inB G x f = true ↔ inS G x f := by
  unfold inB inS
  rw [List.all_eq_true]
  constructor
  · intro h g hg
    have := h g (List.mem_range.mpr hg)
    simpa using this
  · intro h g hg
    have := h g (List.mem_range.mp hg)
    simpa using this
def opc (G : Nat) (x : Int32) : Nat := sumT (fun g => if opn x g then 1 else 0) G
/-- what has been kept so far -/
def Acc (G : Nat) (S : List (List Nat)) (cw : Nat → Int32) (sc le : Int32) : Prop :=
  sc = nI S.length ∧ (∀ g b, g < G → b < 3 → cw (3 * g + b) = nI (S.countP (fun a => fnL a g == b))) ∧ ∀ a, S.head? = some a → ∀ g, g < G → lw le g = fnL a g
theorem kcw_at (x : Int32) : ∀ n g f h b, b < 3 → kcw x n g f (3 * h + b) = if (g ≤ h ∧ h < g + n) ∧ lw x h = b then f (3 * h + b) + nI 1 else f (3 * h + b) := by
  intro n
  induction n with
  | zero => intro g f h b hb; rw [kcw, if_neg (by omega)]
  | succ n ih =>
    intro g f h b hb
    have hl := lw_le x g
    rw [kcw, ih (g + 1) _ h b hb]
    by_cases e : h = g
    · subst e
      rw [if_neg (by omega)]
      by_cases e2 : lw x h = b
      · rw [if_pos ⟨⟨by omega, by omega⟩, e2⟩, e2, pk_us]
      · rw [if_neg (fun q => e2 q.2), pk_un (by omega)]
    · have hne : 3 * h + b ≠ 3 * g + lw x g := by omega
      rw [pk_un hne]
      have e1 : ((g + 1 ≤ h ∧ h < g + 1 + n) ∧ lw x h = b) ↔ ((g ≤ h ∧ h < g + (n + 1)) ∧ lw x h = b) := by omega
      simp only [e1]
theorem Acc_leaf {G : Nat} {S : List (List Nat)} {cw : Nat → Int32} {sc le x : Int32} (h : Acc G S cw sc le) (hS : S.length < 2 ^ 31) {a0 : List Nat} (ha : ∀ g, g < G → fnL a0 g = lw x g) : Acc G (S ++ [a0]) (kcw x G 0 cw) (sc + nI 1) (if sc = 0 then x else le) := by
  obtain ⟨h1, h2, h3⟩ := h
  refine ⟨?_, fun g b hg hb => ?_, fun a hq g hg => ?_⟩
  · rw [h1, nI_add, List.length_append]; rfl
  · rw [kcw_at x G 0 cw g b hb, h2 g b hg hb, List.countP_append, List.countP_cons, List.countP_nil]
    rw [ha g hg]
    by_cases e : lw x g = b
    · rw [if_pos ⟨⟨by omega, by omega⟩, e⟩, nI_add]; simp [e]
    · rw [if_neg (fun q => e q.2)]; simp [e]
  · cases S with
    | nil =>
      have e : sc = 0 := h1
      simp at hq
      rw [if_pos e, ← hq, ha g hg]
    | cons c S =>
      have e : ¬ sc = 0 := by rw [h1]; exact nI_ne0 (by simp) hS
      rw [if_neg e]
      exact h3 a hq g hg
def cst : Nat → Nat
  | 0 => 1
  | k + 1 => 3 * (1 + cst k) + 2
section
variable {G N : Nat} {nr ds du : Nat → Nat} {cr : Nat → Nat → Bool} {P : List Nat → Bool}
def SL (G : Nat) (P : List Nat → Bool) (x : Int32) : List (List Nat) := (asg G).filter (fun a => P a && inB G x (fnL a))
def SLb (G : Nat) (P : List Nat → Bool) (x : Int32) (g b : Nat) : List (List Nat) := (asg G).filter (fun a => (P a && inB G x (fnL a)) && fnL a g == b)
theorem run_1 {M d : Nat} {en : Bool} {dom ch nx cw : Nat → Int32} {sc le : Int32} {s2 : Sg} (h : stp G N nr ds du cr (d + 1, en, dom, ch, nx, cw, sc, le) = s2) : run G N nr ds du cr (M + 1) (d + 1, en, dom, ch, nx, cw, sc, le) = run G N nr ds du cr M s2 := by
  rw [run, if_neg (by simp), h]
/-- the child of a node -/
theorem bit_b {b j : Nat} (hb : b < 3) (hj : j < 3) : bt (nI 1 <<< (nI b &&& 31)) j = decide (j = b) := one_bt (by omega) (by omega)
theorem opc_lt {x y : Int32} {g b : Nat} (hg : g < G) (hG : G ≤ 8) (hb : b < 3) (ho : opn x g = true) (h : sbS G y (rs x g (nI 1 <<< (nI b &&& 31)))) : opc G y < opc G x := by
  have hx : sbS G y x := sbS_tr h (rs_sb hG hg _)
  have h1 : ∀ k, k < G → (if opn y k then 1 else 0) ≤ (if opn x k then 1 else 0) := by
    intro k hk
    have q0 := hx k 0 hk (by omega)
    have q1 := hx k 1 hk (by omega)
    have q2 := hx k 2 hk (by omega)
    unfold opn
    cases a0 : pb y k 0 <;> cases a1 : pb y k 1 <;> cases a2 : pb y k 2 <;> simp_all
  have h2 : opn y g = false := by
    have q : ∀ j, j < 3 → pb y g j = true → j = b := by
      intro j hj z
      have z1 := h g j hg hj z
      rw [pb_rs x _ (by omega) (by omega) hj, if_pos rfl, bit_b hb hj] at z1
      simp at z1
      exact z1.2
    have q0 := q 0 (by omega)
    have q1 := q 1 (by omega)
    have q2 := q 2 (by omega)
    unfold opn
    cases a0 : pb y g 0 <;> cases a1 : pb y g 1 <;> cases a2 : pb y g 2 <;> simp_all <;> omega
  have h3 := sum_ex (a := fun k => if opn y k then 1 else 0) (b := fun k => if opn x k then 1 else 0) G h1 g hg
  simp only [ho, h2, if_true, Bool.false_eq_true, if_false] at h3
  unfold opc
  omega
theorem child_wn {x : Int32} {g b : Nat} (hG : G ≤ 8) (hg : g < G) (hb : b < 3) (hw : wfS G x) (hn : neS G x) (hp : pb x g b = true) : wfS G (rs x g (nI 1 <<< (nI b &&& 31))) ∧ neS G (rs x g (nI 1 <<< (nI b &&& 31))) :=
  ⟨rs_wf hG hg _ hw, rs_ne hG hg hn ⟨b, hb, by rw [pb_rs x _ (by omega) (by omega) hb, if_pos rfl, hp, bit_b hb hb]; simp⟩⟩
theorem child_sl (hI : Ins G N nr ds cr) (hP : ∀ a ∈ asg G, P a = true ↔ SoB G N nr ds du cr (fnL a)) {x : Int32} {g b : Nat} (hg : g < G) (hb : b < 3) (hw : wfS G x) (hn : neS G x) : SLb G P x g b = if gsR G N nr ds du cr x g b then SL G P (gsX G N nr ds du cr x g b) else [] := by
  have hG := hI.1
  cases hp : pb x g b with
  | false =>
    have e : gsR G N nr ds du cr x g b = false := by simp [gsR, hp]
    rw [e]
    refine filt0 (fun a ha => ?_)
    cases hq : ((P a && inB G x (fnL a)) && fnL a g == b) with
    | false => rfl
    | true =>
      simp only [Bool.and_eq_true, beq_iff_eq] at hq
      obtain ⟨⟨-, q2⟩, q3⟩ := hq
      have := (inB_iff.mp q2 g hg).2
      rw [q3, hp] at this
      cases this
  | true =>
    obtain ⟨cw, cn⟩ := child_wn hG hg hb hw hn hp
    have tox : ∀ a, inS G x (fnL a) → fnL a g = b → inS G (rs x g (nI 1 <<< (nI b &&& 31))) (fnL a) := by
      intro a h1 h2
      exact rs_in hG hg h1 (by rw [h2, bit_b hb hb]; simp)
    rcases nw30 (du := du) hI cw cn with ⟨h1, h2⟩ | ⟨h1, h2, h3, h4⟩
    · have e : gsR G N nr ds du cr x g b = false := by
        have h9 : ¬ 0 ≤ gsX G N nr ds du cr x g b := h1
        simp [gsR, h9]
      rw [e]
      refine filt0 (fun a ha => ?_)
      cases hq : ((P a && inB G x (fnL a)) && fnL a g == b) with
      | false => rfl
      | true =>
        simp only [Bool.and_eq_true, beq_iff_eq] at hq
        obtain ⟨⟨q1, q2⟩, q3⟩ := hq
        exact absurd (tox a (inB_iff.mp q2) q3) (h2 _ ((hP a ha).mp q1))
    · have e : gsR G N nr ds du cr x g b = true := by
        have h9 : 0 ≤ gsX G N nr ds du cr x g b := h1
        have h8 : b ≤ 2 := by omega
        simp [gsR, hp, h9, h8]
      rw [e, if_pos rfl]
      unfold SLb SL
      apply List.filter_congr
      intro a ha
      rw [Bool.eq_iff_iff]
      simp only [Bool.and_eq_true, beq_iff_eq]
      constructor
      · rintro ⟨⟨q1, q2⟩, q3⟩
        exact ⟨q1, inB_iff.mpr (h4 _ ((hP a ha).mp q1) (tox a (inB_iff.mp q2) q3))⟩
      · rintro ⟨q1, q2⟩
        have q4 := inB_iff.mp q2
        have q5 : inS G (rs x g (nI 1 <<< (nI b &&& 31))) (fnL a) := fun k hk => ⟨(q4 k hk).1, h3 k _ hk (q4 k hk).1 (q4 k hk).2⟩
        refine ⟨⟨q1, inB_iff.mpr (fun k hk => ⟨(q5 k hk).1, rs_sb hG hg _ k _ hk (q5 k hk).1 (q5 k hk).2⟩)⟩, ?_⟩
        have q6 := (q5 g hg).2
        rw [pb_rs x _ (by omega) (by omega) (q5 g hg).1, if_pos rfl, bit_b hb (q5 g hg).1] at q6
        simp at q6
        exact q6.2
theorem SL_leaf (hP : ∀ a ∈ asg G, P a = true ↔ SoB G N nr ds du cr (fnL a)) (hG : G ≤ 8) {x : Int32} (hx : Nod G N nr ds du cr x) (ho : ∀ g, g < G → opn x g = false) : ∃ a0, SL G P x = [a0] ∧ ∀ g, g < G → fnL a0 g = lw x g := by
  refine asg_uniq G _ (lw x) (fun j _ => lw_le x j) (fun a ha => ?_)
  simp only [Bool.and_eq_true]
  rw [inB_iff, leaf_in hx.2.1 ho]
  exact ⟨fun h => h.2, fun h => ⟨(hP a ha).mpr (leaf_sol hx ho h hG), h⟩⟩
theorem SL_open {x : Int32} {g : Nat} (hg : g < G) (hn : neS G x) (ho : ∀ j, j < g → opn x j = false) : SL G P x = SLb G P x g 0 ++ (SLb G P x g 1 ++ SLb G P x g 2) := by
  refine asg_split G g hg _ (lw x) (fun a ha hq j hj => ?_)
  simp only [Bool.and_eq_true] at hq
  obtain ⟨q1, q2⟩ := inB_iff.mp hq.2 j (by omega)
  exact (opn_f (hn j (by omega)) (ho j hj) _ q1).mp q2
def SLf (G : Nat) (P : List Nat → Bool) (x : Int32) (g b : Nat) : List (List Nat) := if b = 0 then SLb G P x g 0 ++ (SLb G P x g 1 ++ SLb G P x g 2) else if b = 1 then SLb G P x g 1 ++ SLb G P x g 2 else if b = 2 then SLb G P x g 2 else []
theorem SLf_s {x : Int32} {g b : Nat} (hb : b < 3) : SLf G P x g b = SLb G P x g b ++ SLf G P x g (b + 1) := by
  rcases (show b = 0 ∨ b = 1 ∨ b = 2 by omega) with rfl | rfl | rfl <;> simp [SLf]
/-- where a run comes to -/
def Gos (G N : Nat) (nr ds du : Nat → Nat) (cr : Nat → Nat → Bool) (d : Nat) (en : Bool) (dom ch nx cw : Nat → Int32) (sc le : Int32) (S : List (List Nat)) (c : Nat) : Prop :=
  ∃ m, m ≤ c ∧ ∃ (dom' ch' nx' cw' : Nat → Int32) (sc' le' : Int32), (∀ M, run G N nr ds du cr (M + m) (d + 1, en, dom, ch, nx, cw, sc, le) = run G N nr ds du cr M (d, false, dom', ch', nx', cw', sc', le')) ∧ (∀ j, j < d → dom' j = dom j ∧ ch' j = ch j ∧ nx' j = nx j) ∧ Acc G S cw' sc' le'
def SubOK (G N : Nat) (nr ds du : Nat → Nat) (cr : Nat → Nat → Bool) (P : List Nat → Bool) (k : Nat) : Prop :=
  ∀ x, opc G x ≤ k → Nod G N nr ds du cr x → ∀ (d : Nat) (dom ch nx cw : Nat → Int32) (sc le : Int32) (S : List (List Nat)), dom d = x → Acc G S cw sc le → S.length + (SL G P x).length ≤ 6561 → Gos G N nr ds du cr d true dom ch nx cw sc le (S ++ SL G P x) (cst k)
theorem gs_ok (hI : Ins G N nr ds cr) (hP : ∀ a ∈ asg G, P a = true ↔ SoB G N nr ds du cr (fnL a)) {k : Nat} (hk : SubOK G N nr ds du cr P k) {x : Int32} {g : Nat} (hg : g < G) (hx : Nod G N nr ds du cr x) (ho : opn x g = true) (hc : opc G x ≤ k + 1) (d : Nat) :
    ∀ c b, b + c = 3 → ∀ (dom ch nx cw : Nat → Int32) (sc le : Int32) (S : List (List Nat)), dom d = x → ch d = nI g → nx d = nI b → Acc G S cw sc le → S.length + (SLf G P x g b).length ≤ 6561 → Gos G N nr ds du cr d false dom ch nx cw sc le (S ++ SLf G P x g b) (c * (1 + cst k) + 1) := by
  have hG := hI.1
  intro c
  induction c with
  | zero =>
    intro b hbc dom ch nx cw sc le S hd hcg hnb hA hS
    obtain rfl : b = 3 := by omega
    have eg : (ch d).toNatClampNeg = g := by rw [hcg]; exact nI_clamp (by omega)
    have eb : (nx d).toNatClampNeg = 3 := by rw [hnb]; exact nI_clamp (by omega)
    have eR : gsR G N nr ds du cr (dom d) g 3 = false := by simp [gsR]
    have eN : gsN nx d 3 = nx := by simp [gsN]
    have h2 : nI 2 < gsN nx d 3 d := by rw [eN, hnb]; decide
    have hst := stp_f2 (dom := dom) (cw := cw) (sc := sc) (le := le) eg eb eR h2
    rw [eN] at hst
    exact ⟨1, by omega, dom, ch, nx, cw, sc, le, fun M => run_1 hst, fun j _ => ⟨rfl, rfl, rfl⟩, by simpa [SLf] using hA⟩
  | succ c ih =>
    intro b hbc dom ch nx cw sc le S hd hcg hnb hA hS
    have hb : b < 3 := by omega
    have eg : (ch d).toNatClampNeg = g := by rw [hcg]; exact nI_clamp (by omega)
    have eb : (nx d).toNatClampNeg = b := by rw [hnb]; exact nI_clamp (by omega)
    have eN : gsN nx d b = upd nx d (nI (b + 1)) := by rw [gsN, if_neg (by omega)]
    have eNd : gsN nx d b d = nI (b + 1) := by rw [eN, pk_us]
    have hsl := child_sl (P := P) hI hP (x := x) hg hb hx.1 hx.2.1
    rw [SLf_s hb] at hS ⊢
    cases eR : gsR G N nr ds du cr x g b with
    | false =>
      rw [eR, if_neg (by decide)] at hsl
      rw [hsl] at hS ⊢
      have eR' : gsR G N nr ds du cr (dom d) g b = false := by rw [hd]; exact eR
      by_cases h2 : nI 2 < gsN nx d b d
      · have hst := stp_f2 (dom := dom) (cw := cw) (sc := sc) (le := le) eg eb eR' h2
        have hb2 : b = 2 := by
          rw [eNd] at h2
          have := (nI_ltI (a := 2) (b := b + 1) (by omega) (by omega)).mp h2
          omega
        refine ⟨1, by omega, dom, ch, gsN nx d b, cw, sc, le, fun M => run_1 hst, fun j hj => ⟨rfl, rfl, by rw [eN]; exact pk_un (by omega)⟩, ?_⟩
        subst hb2
        simpa [SLf] using hA
      · have hst := stp_f3 (dom := dom) (cw := cw) (sc := sc) (le := le) eg eb eR' h2
        obtain ⟨m, hm, dom', ch', nx', cw', sc', le', h5, h6, h7⟩ := ih (b + 1) (by omega) dom ch (gsN nx d b) cw sc le S hd hcg eNd hA (by simpa using hS)
        refine ⟨m + 1, ?_, dom', ch', nx', cw', sc', le', fun M => ?_, fun j hj => ?_, by simpa using h7⟩
        · have : c * (1 + cst k) + (1 + cst k) = (c + 1) * (1 + cst k) := by rw [Nat.succ_mul]
          omega
        · rw [show M + (m + 1) = (M + m) + 1 by omega, run_1 hst, h5]
        · obtain ⟨a1, a2, a3⟩ := h6 j hj
          exact ⟨a1, a2, a3.trans (by rw [eN]; exact pk_un (by omega))⟩
    | true =>
      rw [eR, if_pos rfl] at hsl
      have eR' : gsR G N nr ds du cr (dom d) g b = true := by rw [hd]; exact eR
      have hst := stp_f1 (dom := dom) (cw := cw) (sc := sc) (le := le) eg eb eR'
      have eD : gsD G N nr ds du cr dom d g b = upd dom (d + 1) (gsX G N nr ds du cr x g b) := by rw [gsD, eR', if_pos rfl, hd]
      rw [eD] at hst
      have hpb : pb x g b = true := by
        unfold gsR at eR
        simp only [Bool.and_eq_true] at eR
        exact eR.2.1
      have hy0 : 0 ≤ gsX G N nr ds du cr x g b := by
        unfold gsR at eR
        simp only [Bool.and_eq_true, decide_eq_true_eq] at eR
        exact eR.2.2
      obtain ⟨cw1, cn1⟩ := child_wn hG hg hb hx.1 hx.2.1 hpb
      have hnod : Nod G N nr ds du cr (gsX G N nr ds du cr x g b) ∧ sbS G (gsX G N nr ds du cr x g b) (rs x g (nI 1 <<< (nI b &&& 31))) := by
        rcases nw30 (du := du) hI cw1 cn1 with ⟨z, -⟩ | ⟨-, z1, z2, -⟩
        · exact absurd hy0 z
        · exact ⟨z1, z2⟩
      have hoc := opc_lt hg hG hb ho hnod.2
      rw [hsl] at hS ⊢
      obtain ⟨m1, hm1, dom1, ch1, nx1, cw1', sc1, le1, r1, r2, r3⟩ := hk _ (by omega) hnod.1 (d + 1) (upd dom (d + 1) (gsX G N nr ds du cr x g b)) ch (gsN nx d b) cw sc le S pk_us hA (by simp at hS; omega)
      obtain ⟨a1, a2, a3⟩ := r2 d (by omega)
      obtain ⟨m, hm, dom', ch', nx', cw', sc', le', h5, h6, h7⟩ := ih (b + 1) (by omega) dom1 ch1 nx1 cw1' sc1 le1 (S ++ SL G P (gsX G N nr ds du cr x g b)) (a1.trans ((pk_un (by omega)).trans hd)) (a2.trans hcg) (a3.trans eNd) r3 (by simp at hS ⊢; omega)
      refine ⟨m + (m1 + 1), ?_, dom', ch', nx', cw', sc', le', fun M => ?_, fun j hj => ?_, by simpa using h7⟩
      · have : c * (1 + cst k) + (1 + cst k) = (c + 1) * (1 + cst k) := by rw [Nat.succ_mul]
        omega
      · rw [show M + (m + (m1 + 1)) = ((M + m) + m1) + 1 by omega, run_1 hst, r1, h5]
      · obtain ⟨b1, b2, b3⟩ := h6 j hj
        obtain ⟨c1, c2, c3⟩ := r2 j (by omega)
        exact ⟨b1.trans (c1.trans (pk_un (by omega))), b2.trans c2, b3.trans (c3.trans (by rw [eN]; exact pk_un (by omega)))⟩
theorem sub_ok (hI : Ins G N nr ds cr) (hP : ∀ a ∈ asg G, P a = true ↔ SoB G N nr ds du cr (fnL a)) : ∀ k, SubOK G N nr ds du cr P k := by
  have hG := hI.1
  have leaf : ∀ c, 1 ≤ c → ∀ x, Nod G N nr ds du cr x → fo x G 0 = -1 → (∀ j, j < G → opn x j = false) → ∀ (d : Nat) (dom ch nx cw : Nat → Int32) (sc le : Int32) (S : List (List Nat)), dom d = x → Acc G S cw sc le → S.length + (SL G P x).length ≤ 6561 → Gos G N nr ds du cr d true dom ch nx cw sc le (S ++ SL G P x) c := by
    intro c hc x hx hf ho d dom ch nx cw sc le S hd hA hS
    subst hd
    obtain ⟨a0, e1, e2⟩ := SL_leaf hP hG hx ho
    have hst := stp_t2 (G := G) (N := N) (nr := nr) (ds := ds) (du := du) (cr := cr) (d := d) (dom := dom) (ch := ch) (nx := nx) (cw := cw) (sc := sc) (le := le) (by rw [hf]; exact m1_neg)
    refine ⟨1, hc, dom, _, _, _, _, _, fun M => run_1 hst, fun j hj => ⟨rfl, pk_un (by omega), pk_un (by omega)⟩, ?_⟩
    rw [e1] at hS ⊢
    exact Acc_leaf hA (by omega) e2
  intro k
  induction k with
  | zero =>
    intro x hc hx d dom ch nx cw sc le S hd hA hS
    rcases fo_ok (G := G) (x := x) G 0 (by omega) with ⟨h1, h2⟩ | ⟨g, h1, h2, h3, h4, h5⟩
    · exact leaf _ (Nat.le_refl _) x hx h1 (fun j hj => h2 j (by omega) hj) d dom ch nx cw sc le S hd hA hS
    · exfalso
      have := sum_ex (a := fun _ => 0) (b := fun k => if opn x k then 1 else 0) G (fun _ _ => Nat.zero_le _) g h2
      simp only [h4, if_true] at this
      unfold opc at hc
      omega
  | succ k ih =>
    intro x hc hx d dom ch nx cw sc le S hd hA hS
    rcases fo_ok (G := G) (x := x) G 0 (by omega) with ⟨h1, h2⟩ | ⟨g, h1, h2, h3, h4, h5⟩
    · exact leaf _ (by simp only [cst]; omega) x hx h1 (fun j hj => h2 j (by omega) hj) d dom ch nx cw sc le S hd hA hS
    · have e0 : 0 ≤ fo (dom d) G 0 := by rw [hd, h3]; exact nI_pos' (by omega)
      have hst := stp_t1 (G := G) (N := N) (nr := nr) (ds := ds) (du := du) (cr := cr) (d := d) (dom := dom) (ch := ch) (nx := nx) (cw := cw) (sc := sc) (le := le) e0
      have e1 : SL G P x = SLf G P x g 0 := by rw [SL_open h2 hx.2.1 (fun j hj => h5 j (by omega) hj)]; simp [SLf]
      rw [e1] at hS ⊢
      obtain ⟨m, hm, dom', ch', nx', cw', sc', le', r1, r2, r3⟩ := gs_ok hI hP ih h2 hx h4 hc d 3 0 (by omega) dom (upd ch d (fo (dom d) G 0)) (upd nx d (nI 0)) cw sc le S hd (pk_us.trans (by rw [hd]; exact h3)) pk_us hA hS
      refine ⟨m + 1, by simp only [cst]; omega, dom', ch', nx', cw', sc', le', fun M => ?_, fun j hj => ?_, r3⟩
      · rw [show M + (m + 1) = (M + m) + 1 by omega, run_1 hst, r1]
      · obtain ⟨a1, a2, a3⟩ := r2 j hj
        exact ⟨a1, a2.trans (pk_un (by omega)), a3.trans (pk_un (by omega))⟩
end
end
section
/-! the search's invariant; its solutions are the reference's; SrOK -/
def lvE (G : Nat) (dom : Nat → Int32) (j : Nat) : Prop := wfS G (dom j) ∧ neS G (dom j) ∧ opc G (dom j) + j ≤ 8
def lvA (G : Nat) (dom ch nx : Nat → Int32) (j : Nat) : Prop := lvE G dom j ∧ ∃ g b, ch j = nI g ∧ g < G ∧ opn (dom j) g = true ∧ nx j = nI b ∧ b ≤ 3
def InvS (G : Nat) : Sg → Prop := fun st => ∀ j, j < st.1 → ((j + 1 = st.1 ∧ st.2.1 = true) ∧ lvE G st.2.2.1 j) ∨ lvA G st.2.2.1 st.2.2.2.1 st.2.2.2.2.1 j
theorem lvA_up {G : Nat} {dom ch nx dom' ch' nx' : Nat → Int32} {j : Nat} (h : lvA G dom ch nx j) (h1 : dom' j = dom j) (h2 : ch' j = ch j) (h3 : nx' j = nx j) : lvA G dom' ch' nx' j := by
  unfold lvA lvE at h ⊢
  rw [h1, h2, h3]
  exact h
section
variable {G N : Nat} {nr ds du : Nat → Nat} {cr : Nat → Nat → Bool}
theorem inv_ok (hI : Ins G N nr ds cr) : okS G N nr ds du cr (InvS G) := by
  have hG := hI.1
  refine ⟨?_, ?_⟩
  · rintro ⟨e, en, dom, ch, nx, cw, sc, le⟩ h
    cases e with
    | zero => intro j hj; exact absurd hj (Nat.not_lt_zero _)
    | succ d =>
      cases en with
      | true =>
        have hlow : ∀ j, j < d → lvA G dom ch nx j := by
          intro j hj
          rcases h j (by show j < d + 1; omega) with ⟨⟨q, -⟩, -⟩ | q
          · exfalso; have : j + 1 = d + 1 := q; omega
          · exact q
        have htop : lvE G dom d := by
          rcases h d (by show d < d + 1; omega) with ⟨-, q⟩ | q
          · exact q
          · exact q.1
        rcases fo_ok (G := G) (x := dom d) G 0 (by omega) with ⟨h1, -⟩ | ⟨g, h1, h2, h3, h4, h5⟩
        · rw [stp_t2 (by rw [h1]; exact m1_neg)]
          intro j hj
          have hj : j < d := hj
          exact Or.inr (lvA_up (hlow j hj) rfl (pk_un (by omega)) (pk_un (by omega)))
        · rw [stp_t1 (by rw [h3]; exact nI_pos' (by omega))]
          intro j hj
          have hj : j < d + 1 := hj
          right
          by_cases e : j = d
          · subst e
            exact ⟨htop, g, 0, pk_us.trans h3, h2, h4, pk_us, by omega⟩
          · exact lvA_up (hlow j (by omega)) rfl (pk_un e) (pk_un e)
      | false =>
        have hall : ∀ j, j < d + 1 → lvA G dom ch nx j := by
          intro j hj
          rcases h j hj with ⟨⟨-, q⟩, -⟩ | q
          · cases q
          · exact q
        obtain ⟨⟨w1, w2, w3⟩, g, b, c1, c2, c3, c4, c5⟩ := hall d (by omega)
        have eg : (ch d).toNatClampNeg = g := by rw [c1]; exact nI_clamp (by omega)
        have eb : (nx d).toNatClampNeg = b := by rw [c4]; exact nI_clamp (by omega)
        have hnx : ∃ b', gsN nx d b d = nI b' ∧ b' ≤ 3 := by
          unfold gsN
          by_cases q : 2 < b
          · rw [if_pos q]; exact ⟨b, c4, c5⟩
          · rw [if_neg q]; exact ⟨b + 1, pk_us, by omega⟩
        have hno : ∀ j, j ≠ d → gsN nx d b j = nx j := by
          intro j hj
          unfold gsN
          split
          · rfl
          · exact pk_un hj
        have hkeep : ∀ j, j < d + 1 → lvA G dom ch (gsN nx d b) j := by
          intro j hj
          by_cases e : j = d
          · subst e
            obtain ⟨b', q1, q2⟩ := hnx
            exact ⟨⟨w1, w2, w3⟩, g, b', c1, c2, c3, q1, q2⟩
          · exact lvA_up (hall j hj) rfl rfl (hno j e)
        cases eR : gsR G N nr ds du cr (dom d) g b with
        | true =>
          rw [stp_f1 eg eb eR]
          have eD : gsD G N nr ds du cr dom d g b = upd dom (d + 1) (gsX G N nr ds du cr (dom d) g b) := by rw [gsD, eR, if_pos rfl]
          have eR2 := eR
          unfold gsR at eR2
          simp only [Bool.and_eq_true, decide_eq_true_eq] at eR2
          obtain ⟨hb2, hpb, hy0⟩ := eR2
          have hb : b < 3 := by omega
          obtain ⟨cw1, cn1⟩ := child_wn hG c2 hb w1 w2 hpb
          intro j hj
          have hj : j < d + 2 := hj
          by_cases e : j = d + 1
          · subst e
            left
            refine ⟨⟨rfl, rfl⟩, ?_⟩
            show lvE G (gsD G N nr ds du cr dom d g b) (d + 1)
            rw [eD]
            unfold lvE
            rw [pk_us]
            rcases nw30 (du := du) hI cw1 cn1 with ⟨z, -⟩ | ⟨-, z1, z2, -⟩
            · exact absurd hy0 z
            · have hoc := opc_lt c2 hG hb c3 z2
              exact ⟨z1.1, z1.2.1, by unfold gsX; omega⟩
          · right
            show lvA G (gsD G N nr ds du cr dom d g b) ch (gsN nx d b) j
            rw [eD]
            exact lvA_up (hkeep j (by omega)) (pk_un e) rfl rfl
        | false =>
          by_cases h2 : nI 2 < gsN nx d b d
          · rw [stp_f2 eg eb eR h2]
            intro j hj
            have hj : j < d := hj
            exact Or.inr (hkeep j (by omega))
          · rw [stp_f3 eg eb eR h2]
            intro j hj
            exact Or.inr (hkeep j hj)
  · intro d en dom ch nx cw sc le h
    have h1 := h d (by show d < d + 1; omega)
    have h2 : lvE G dom d := by
      rcases h1 with ⟨-, q⟩ | q
      · exact q
      · exact q.1
    refine ⟨by have := h2.2.2; omega, fun e => ?_⟩
    subst e
    rcases h1 with ⟨⟨-, q⟩, -⟩ | ⟨-, g, b, c1, c2, c3, c4, c5⟩
    · cases q
    · exact ⟨g, b, c1, c2, c4, c5⟩
theorem start_ok (hG : G ≤ 8) : wfS G (ful (3 * G)) ∧ neS G (ful (3 * G)) ∧ ∀ f : Nat → Nat, (∀ g, g < G → f g < 3) → inS G (ful (3 * G)) f := by
  have hb : ∀ i, i < 32 → bt (ful (3 * G)) i = decide (i < 3 * G) := fun i hi => ful_bt (3 * G) (by omega) i hi
  refine ⟨fun i hi => ?_, fun g hg => ⟨0, by omega, ?_⟩, fun f hf g hg => ⟨hf g hg, ?_⟩⟩
  · rcases Nat.lt_or_ge i 32 with q | q
    · rw [hb i q]; simp; omega
    · exact b_big q
  · unfold pb; rw [hb _ (by omega)]; simp; omega
  · have := hf g hg
    unfold pb; rw [hb _ (by omega)]; simp; omega
theorem opc_le (x : Int32) : opc G x ≤ G := by
  have := sumT_le (f := fun g => if opn x g then 1 else 0) (b := 1) (fun g => by split <;> omega) G
  unfold opc
  omega
theorem cst8 : cst 8 = 22961 := by decide
/-- the whole search -/
theorem search_ok (hI : Ins G N nr ds cr) {P : List Nat → Bool} (hP : ∀ a ∈ asg G, P a = true ↔ SoB G N nr ds du cr (fnL a)) (fDo fCh fNx fCw : Nat → Int32) :
    InvS G (st0 G N nr ds du cr fDo fCh fNx fCw) ∧ ∃ e en dom ch nx cw sc le, run G N nr ds du cr 60000 (st0 G N nr ds du cr fDo fCh fNx fCw) = (e, en, dom, ch, nx, cw, sc, le) ∧ Acc G ((asg G).filter P) cw sc le := by
  have hG := hI.1
  obtain ⟨s1, s2, s3⟩ := start_ok (G := G) hG
  have hle : ((asg G).filter P).length ≤ 6561 := by
    have h1 : ((asg G).filter P).length ≤ (asg G).length := List.length_filter_le _ _
    rw [asg_len] at h1
    have h2 : 3 ^ G ≤ 3 ^ 8 := Nat.pow_le_pow_right (by omega) hG
    omega
  have hA0 : Acc G [] (clr 24 fCw) (nI 0) (nI 0) := by
    refine ⟨rfl, fun g b hg hb => ?_, fun a h => by simp at h⟩
    unfold clr
    rw [if_pos (by omega)]; rfl
  have hin : ∀ a ∈ asg G, inS G (ful (3 * G)) (fnL a) := fun a ha => s3 (fnL a) (fun g _ => by have := asg_le G a ha g; omega)
  rcases nw30 (du := du) hI s1 s2 with ⟨h1, h2⟩ | ⟨h1, h2, h3, h4⟩
  · have e0 : st0 G N nr ds du cr fDo fCh fNx fCw = (0, true, upd fDo 0 (nw G N nr ds du cr 30 (ful (3 * G))), fCh, fNx, clr 24 fCw, nI 0, nI 0) := by
      have h9 : ¬ 0 ≤ nw G N nr ds du cr 30 ((nI 1 <<< (nI (3 * G) &&& 31)) - nI 1) := h1
      simp only [st0, if_neg h9]
      rfl
    rw [e0]
    refine ⟨fun j hj => absurd hj (Nat.not_lt_zero _), _, _, _, _, _, _, _, _, run_0 60000, ?_⟩
    have : (asg G).filter P = [] := filt0 (fun a ha => by
      cases hq : P a with
      | false => rfl
      | true => exact absurd (hin a ha) (h2 _ ((hP a ha).mp hq)))
    rw [this]
    exact hA0
  · have e0 : st0 G N nr ds du cr fDo fCh fNx fCw = (1, true, upd fDo 0 (nw G N nr ds du cr 30 (ful (3 * G))), fCh, fNx, clr 24 fCw, nI 0, nI 0) := by
      have h9 : 0 ≤ nw G N nr ds du cr 30 ((nI 1 <<< (nI (3 * G) &&& 31)) - nI 1) := h1
      simp only [st0, if_pos h9]
      rfl
    generalize nw G N nr ds du cr 30 (ful (3 * G)) = y at e0 h1 h2 h3 h4
    have hoc := opc_le (G := G) y
    have eSL : SL G P y = (asg G).filter P := by
      unfold SL
      apply List.filter_congr
      intro a ha
      cases hq : P a with
      | false => rfl
      | true => rw [inB_iff.mpr (h4 _ ((hP a ha).mp hq) (hin a ha))]; rfl
    rw [e0]
    refine ⟨fun j hj => ?_, ?_⟩
    · have hj : j < 1 := hj
      obtain rfl : j = 0 := by omega
      left
      refine ⟨⟨rfl, rfl⟩, ?_⟩
      show lvE G (upd fDo 0 y) 0
      unfold lvE
      rw [pk_us]
      exact ⟨h2.1, h2.2.1, by omega⟩
    · obtain ⟨m, hm, dom', ch', nx', cw', sc', le', r1, r2, r3⟩ := sub_ok hI hP 8 y (by omega) h2 0 (upd fDo 0 y) fCh fNx (clr 24 fCw) (nI 0) (nI 0) [] pk_us hA0 (by rw [eSL]; simpa using hle)
      rw [cst8] at hm
      refine ⟨0, false, dom', ch', nx', cw', sc', le', ?_, ?_⟩
      · have := r1 (60000 - m)
        rw [show 60000 - m + m = 60000 by omega, run_0] at this
        exact this
      · rw [eSL] at r3
        exact r3
end
/-! the reference's solutions are these -/
section
variable {num f : Nat → Nat}
theorem tc_iff {g i c : Nat} (hg : g < (gL num).length) (hc : 0 < num c) (hi : rk num c = i) : tc (nrF num) (dsF num) g i = true ↔ (nrC num g = c ∨ frC num g = c) := by
  obtain ⟨a1, a2, a3, a4, a5⟩ := gL_ok hg
  subst hi
  simp only [tc, nrF, dsF, Bool.or_eq_true, beq_iff_eq]
  constructor
  · rintro (h | h)
    · exact Or.inl (rk_inj num a2 hc h)
    · exact Or.inr (rk_inj num a4 hc h)
  · rintro (h | h)
    · exact Or.inl (by rw [h])
    · exact Or.inr (by rw [h])
theorem mSm_eq {i c : Nat} (hc : 0 < num c) (hi : rk num c = i) : sumT (fun g => if tc (nrF num) (dsF num) g i then f g else 0) (gL num).length = mSm num f c (gL num).length := by
  refine sum_eq _ (fun g hg => ?_)
  have := tc_iff (c := c) hg hc hi
  by_cases q : nrC num g = c ∨ frC num g = c
  · rw [if_pos q, if_pos (this.mpr q)]
  · rw [if_neg q, if_neg (fun z => q (this.mp z))]
theorem sum_iff : mSum num f = true ↔ ∀ i, i < rk num 36 → sumT (fun g => if tc (nrF num) (dsF num) g i then f g else 0) (gL num).length = duF num i := by
  constructor
  · intro h i hi
    obtain ⟨h1, h2, h3⟩ := co_spec num hi
    rw [mSm_eq h2 h3]
    rw [mSum, List.all_eq_true] at h
    have := h (co num i) (List.mem_range.mpr h1)
    rw [if_pos h2] at this
    unfold duF
    simpa using this
  · intro h
    refine mSum_t (fun c hc => ?_)
    rcases Nat.eq_zero_or_pos (num c) with q | q
    · rw [if_neg (by omega)]; exact q.symm
    · rw [if_pos q, ← mSm_eq (i := rk num c) q rfl, h _ (rk_lt num q hc), duF, co_rk num q hc]
theorem and_cm (x y : Int64) : x &&& y = y &&& x := by
  apply Int64.toBitVec_inj.mp
  rw [Int64.toBitVec_and, Int64.toBitVec_and, BitVec.and_comm]
theorem apt_iff : mApt num f = true ↔ ∀ g h, g < (gL num).length → h < (gL num).length → crF num g h = true → f g = 0 ∨ f h = 0 := by
  have key : ∀ g h, mAp1 num f g h = true ↔ (¬ mkC num g &&& mkC num h = 0 → f g = 0 ∨ f h = 0) := by
    intro g h
    simp only [mAp1, Bool.or_eq_true, decide_eq_true_eq]
    constructor
    · rintro ((q | q) | q) z
      · exact absurd q z
      · exact Or.inl q
      · exact Or.inr q
    · intro q
      by_cases z : mkC num g &&& mkC num h = 0
      · exact Or.inl (Or.inl z)
      · rcases q z with q | q
        · exact Or.inl (Or.inr q)
        · exact Or.inr q
  constructor
  · intro q g h hg hh hc
    simp only [crF, Bool.and_eq_true, decide_eq_true_eq] at hc
    obtain ⟨c1, c2⟩ := hc
    rw [mApt, List.all_eq_true] at q
    rcases Nat.lt_or_ge h g with z | z
    · have q1 := q g (List.mem_range.mpr hg)
      rw [List.all_eq_true] at q1
      exact (key g h).mp (q1 h (List.mem_range.mpr z)) c2
    · have q1 := q h (List.mem_range.mpr hh)
      rw [List.all_eq_true] at q1
      exact ((key h g).mp (q1 g (List.mem_range.mpr (by omega))) (by rw [and_cm]; exact c2)).symm
  · intro q
    refine mApt_t (fun g hg h hh => (key g h).mpr (fun z => q g h hg (by omega) ?_))
    simp only [crF, Bool.and_eq_true, decide_eq_true_eq]
    exact ⟨by omega, z⟩
def RR (num : Nat → Nat) (r : Int32) (re : Nat → Bool) : Prop := ∀ c, c < 36 → 0 < num c → bt r (rk num c) = re c
theorem RR_1 {g : Nat} (h7 : rk num 36 ≤ 7) (hg : g < (gL num).length) {r : Int32} {re : Nat → Bool} (h : RR num r re) : RR num (rg1 (nrF num) (dsF num) (fun k => decide (0 < f k)) g r) (mj1 num f g re) := by
  obtain ⟨a1, a2, a3, a4, a5⟩ := gL_ok hg
  have r1 := rk_lt num a2 a1
  have r2 := rk_lt num a4 a3
  have e1 := h _ a1 a2
  have e2 := h _ a3 a4
  have hb : ∀ i, i < 32 → bt (enb (nrF num) (dsF num) g) i = (decide (i = nrF num g) || decide (i = dsF num g)) := fun i hi => enb_bt (by unfold nrF; omega) (by unfold dsF; omega) hi
  have hz : r &&& enb (nrF num) (dsF num) g = 0 ↔ (re (nrC num g) || re (frC num g)) = false := by
    rw [and0]
    constructor
    · intro q
      have q1 := q (nrF num g) (by unfold nrF; omega)
      have q2 := q (dsF num g) (by unfold dsF; omega)
      rw [hb _ (by unfold nrF; omega)] at q1
      rw [hb _ (by unfold dsF; omega)] at q2
      simp [nrF, e1] at q1
      simp [dsF, e2] at q2
      simp [q1, q2]
    · intro q i hi z
      simp only [Bool.or_eq_false_iff] at q
      rw [hb i hi] at z
      simp only [Bool.or_eq_true, decide_eq_true_eq] at z
      obtain ⟨z1, z2 | z2⟩ := z
      · rw [z2, nrF, e1, q.1] at z1; cases z1
      · rw [z2, dsF, e2, q.2] at z1; cases z1
  intro c hc hn
  by_cases h1 : 0 < f g
  · by_cases h2 : (re (nrC num g) || re (frC num g)) = true
    · rw [mj1_t ⟨h1, h2⟩, rg1, if_pos (decide_eq_true h1), if_neg (fun q => by rw [hz.mp q] at h2; cases h2), b_or, h c hc hn]
      have rc := rk_lt num hn hc
      rw [hb _ (by omega)]
      unfold setB
      by_cases c1 : c = frC num g
      · subst c1; simp [dsF]
      · by_cases c2 : c = nrC num g
        · subst c2; simp [nrF]
        · have d1 : rk num c ≠ nrF num g := fun q => c2 (rk_inj num hn a2 q)
          have d2 : rk num c ≠ dsF num g := fun q => c1 (rk_inj num hn a4 q)
          simp [c1, c2, d1, d2]
    · have h3 : (re (nrC num g) || re (frC num g)) = false := by cases hq : (re (nrC num g) || re (frC num g)) with | true => exact absurd hq h2 | false => rfl
      rw [mj1_n (fun q => h2 q.2), rg1, if_pos (decide_eq_true h1), if_pos (hz.mpr h3)]
      exact h c hc hn
  · rw [mj1_n (fun q => h1 q.1), rg1, decide_eq_false h1, if_neg (by decide)]
    exact h c hc hn
theorem RR_L (h7 : rk num 36 ≤ 7) : ∀ n g, g + n ≤ (gL num).length → ∀ r re, RR num r re → RR num (rgL (nrF num) (dsF num) (fun k => decide (0 < f k)) n g r) (mjL num f n g re) := by
  intro n
  induction n with
  | zero => intro g _ r re h; exact h
  | succ n ih => intro g hg r re h; exact ih (g + 1) (by omega) _ _ (RR_1 h7 (by omega) h)
theorem RR_s (h7 : rk num 36 ≤ 7) : ∀ k r re, RR num r re → RR num (rgs (gL num).length (nrF num) (dsF num) (fun k => decide (0 < f k)) k r) (mjs num f k re) := by
  intro k
  induction k with
  | zero => intro r re h; exact h
  | succ k ih => intro r re h; exact ih _ _ (RR_L h7 _ 0 (by omega) r re h)
theorem RR_0 (h7 : rk num 36 ≤ 7) : RR num (nI 1) (mR0 num) := by
  intro c hc hn
  have := rk_lt num hn hc
  rw [show nI 1 = 1 from rfl, b_1]
  simp [mR0, hn]
theorem joi_iff (h7 : rk num 36 ≤ 7) : mJoi num f = true ↔ hgF (gL num).length (rk num 36) (nrF num) (dsF num) (fun g => decide (0 < f g)) := by
  have hR := RR_s (f := f) h7 7 _ _ (RR_0 h7)
  constructor
  · intro h
    rcases Nat.eq_zero_or_pos (rk num 36) with z | z
    · exact Or.inl z
    · right
      refine sb32_eq (rgs_ful (by omega) (fun g hg => ?_) 7 _ (one_ful (by omega) z)) (fun i hi q => ?_)
      · obtain ⟨a1, a2, a3, a4, a5⟩ := gL_ok hg
        exact ⟨rk_lt num a2 a1, rk_lt num a4 a3⟩
      · rw [ful_bt _ (by omega) i hi] at q
        have q : i < rk num 36 := of_decide_eq_true q
        obtain ⟨b1, b2, b3⟩ := co_spec num q
        have := hR _ b1 b2
        rw [b3] at this
        rw [this]
        rw [mJoi, List.all_eq_true] at h
        have h9 := h (co num i) (List.mem_range.mpr b1)
        simp only [Bool.or_eq_true, decide_eq_true_eq] at h9
        exact h9.resolve_left (by omega)
  · intro h
    refine mJoi_t (fun c hc hn => ?_)
    have hr := rk_lt num hn hc
    rcases h with z | z
    · omega
    · rw [← hR c hc hn, z, ful_bt _ (by omega) _ (by omega)]
      exact decide_eq_true hr
theorem sol_iff (h7 : rk num 36 ≤ 7) : mSol num f = true ↔ SoB (gL num).length (rk num 36) (nrF num) (dsF num) (duF num) (crF num) f := by
  unfold mSol SoB
  simp only [Bool.and_eq_true]
  rw [sum_iff, apt_iff, joi_iff h7]
end
theorem sr_ok {num : Nat → Nat} (h7 : rk num 36 ≤ 7) (h8 : (gL num).length ≤ 8) : SrOK num := by
  have hI : Ins (gL num).length (rk num 36) (nrF num) (dsF num) (crF num) := by
    refine ⟨h8, h7, fun g hg => ?_, fun g => by simp [crF]⟩
    obtain ⟨a1, a2, a3, a4, a5⟩ := gL_ok hg
    exact ⟨rk_lt num a2 a1, rk_lt num a4 a3⟩
  refine ⟨InvS (gL num).length, inv_ok hI, fun fDo fCh fNx fCw => ?_⟩
  obtain ⟨h1, e, en, dom, ch, nx, cw, sc, le, h2, h3⟩ := search_ok (du := duF num) hI (P := fun a => mSol num (fnL a)) (fun a _ => sol_iff h7) fDo fCh fNx fCw
  refine ⟨h1, ?_⟩
  rw [h2]
  exact h3
end
section
/-! constructors: fresh arrays, joins of worlds -/
set_option maxRecDepth 100000
/-- BridgeBoard's cells hold the board num -/
def BBh (h : Nat) (dI dJ : ClassId) (num : Nat → Nat) (w : va_W) : Prop := ∃ (a : Nat → Nat) (vIs vLi vGc vSo vSc vLe : Int32) (fNu fCo fIx fNe fDi : Nat → Int32) (fBe : Nat → Int64) (fCr fCw fDo fCh fNx : Nat → Int32), w = bbW h a dI dJ vIs vLi vGc vSo vSc vLe fNu fCo fIx fNe fDi fBe fCr fCw fDo fCh fNx ∧ BBok num vIs vLi vGc vSo vSc vLe fNu fCo fIx fNe fDi fBe fCr fCw
/-- BridgeBoardModel's cells hold the board num -/
def MDh (h : Nat) (dI dJ dZ : ClassId) (num : Nat → Nat) (w : va_W) : Prop := ∃ (a : Nat → Nat) (vGa : Int32) (fNu fNe fFa : Nat → Int32) (fBe : Nat → Int64) (fBr fRe : Nat → Int32), w = mdW h a dI dJ dZ vGa fNu fNe fFa fBe fBr fRe ∧ MDok num fNu
theorem va_Pl {D : va_G} {cl : List vw_C} {w wr : va_W} {H : Heap} (h : va_P D cl (w ++ wr) H) : va_P D cl w H := fun k q hk => h k q (by rw [List.getElem?_append_left (List.getElem?_eq_some_iff.mp hk).1]; exact hk)
theorem va_Dl {A : Nat → Prop} {w wr : va_W} (h : va_D A (w ++ wr)) : va_D A w := by
  have hl : ∀ {k : Nat} {q : Nat × va_E}, w[k]? = some q → (w ++ wr)[k]? = some q := fun {k q} hk => by rw [List.getElem?_append_left (List.getElem?_eq_some_iff.mp hk).1]; exact hk
  exact ⟨fun i j p q hi hj e => h.1 i j p q (hl hi) (hl hj) e, fun k q hk => h.2 k q (hl hk)⟩
theorem va_joinG {A0 : Nat → Prop} {D : va_G} {cl : List vw_C} {w wr w1 : va_W} {H H1 : Heap} (hP : va_P D cl (w ++ wr) H) (hD : va_D A0 (w ++ wr)) (hk : ∀ q : Nat, q < H.size → ¬ va_A w H.size q → H1[q]? = H[q]?) (hF : ∀ q, va_A w H.size q → A0 q) (hP1 : va_P D cl w1 H1) (hD1 : va_D (va_A w H.size) w1) : va_P D cl (wr ++ w1) H1 ∧ va_D A0 (wr ++ w1) := by
  have hl : ∀ {k : Nat} {q : Nat × va_E}, w[k]? = some q → (w ++ wr)[k]? = some q := fun {k q} hk => by rw [List.getElem?_append_left (List.getElem?_eq_some_iff.mp hk).1]; exact hk
  have hr : ∀ {k : Nat} {q : Nat × va_E}, wr[k]? = some q → (w ++ wr)[w.length + k]? = some q := fun {k q} hk => by rw [List.getElem?_append_right (Nat.le_add_right _ _), Nat.add_sub_cancel_left]; exact hk
  have apart : ∀ (k : Nat) (q : Nat × va_E), wr[k]? = some q → q.1 < H.size ∧ ¬ va_A w H.size q.1 := by
    intro k q hq
    have hlt := (hP _ q (hr hq)).lt
    refine ⟨hlt, fun h => ?_⟩
    rcases h with ⟨k2, e, h⟩ | h
    · have hij := hD.1 _ _ q (q.1, e) (hr hq) (hl h) rfl
      have := (List.getElem?_eq_some_iff.mp h).1
      omega
    · omega
  refine ⟨va_P.app (fun k q hq => ?_) hP1, va_D.app ⟨fun i j p q hi hj e => ?_, fun k q hk => hD.2 _ q (hr hk)⟩ (hD1.weaken (fun k q _ h => hF q.1 h)) (fun i j x y hx hy hxy => ?_)⟩
  · obtain ⟨g1, g2⟩ := apart k q hq
    exact (hP _ q (hr hq)).kept (hk q.1 g1 g2)
  · have := hD.1 _ _ p q (hr hi) (hr hj) e
    omega
  · exact (apart i x hx).2 (by rw [hxy]; exact hD1.2 j y hy)
theorem va_Psw {D : va_G} {cl : List vw_C} {w wr : va_W} {H : Heap} (h : va_P D cl (w ++ wr) H) : va_P D cl (wr ++ w) H := va_P.swap (a := []) (b := w) (c := wr) h
theorem va_Dsw {A : Nat → Prop} {w wr : va_W} (h : va_D A (w ++ wr)) : va_D A (wr ++ w) := va_D.swap (a := []) (b := w) (c := wr) h
section
variable {p : Program} {l : Launch} {e : Env} {R : Room} {s : State} {m : MethodId} {args : Array Value} {below : List Frame} {meth : Method} {c : Code} {H : Heap} {locs : List Loc} {cells slots : Nat} {Q : State → Prop} {cc : ByteArray} {pc nL : Nat} {ls : Array Slot} {rest : List Value} {D : va_G} {A : Nat → Prop} {H0 : Heap}
theorem nw_a {tys : List (ClassId × FieldType)} {w : va_W} (hexec : p.tables.exec = Jvm.exec) (hb : c.code = cc) {atype : ArrayType} (harr : (Cond.arrayClass (newarray.typeOf atype)).before args s = true) {ty : FieldType} (hty : newarray.typeOf atype = ty) (hno : ∀ cA : ClassId, va_RA s cA ty → s.vm.findClass ("[" ++ ty.toString) = some cA) (t0 : Nat) {d : ClassId} (ht : tys[t0]? = some (d, ty)) (hK : va_K D vwCl tys s) (hP : va_P D vwCl w H) (hD : va_D A w) (hS : va_S A H0 H locs) (hA : ∀ q, H0.size ≤ q → A q)
    {n : Int32} {N' : Nat} {a0 : vp_A} (ha : ∀ cA : ClassId, vp_cell cA a0 = arrV cA N' (fun _ => defaultValue ty)) (hn : ¬ n < 0) (hN : n.toNatClampNeg = N') (hbytes : N' * componentBytes ty ≤ 536870912) (hcells : cells + 1 ≤ R.cells) (hslots : slots + N' ≤ R.slots) (hdg : decode cc pc = .ok (.newarray atype, 2))
    (kk : ∀ (q : Nat) (H1 : Heap), va_P D vwCl (w ++ [(q, .inl (d, a0))]) H1 → va_D A (w ++ [(q, .inl (d, a0))]) → va_S A H0 H1 locs → W p l e R s m args below meth c H1 locs (cells + 1) (slots + N') Q (F0 m (pc + 2) ls (.ref q :: rest))) : W p l e R s m args below meth c H locs cells slots Q (F0 m pc ls (.int n :: rest)) := by
  refine va_newa hexec hb harr hty hK hP hD hS hA ha hn hN hbytes hcells hslots hdg (fun q cA H1 hK1 hP1 hD1 hS1 => ?_)
  have e1 := hno _ (hK1.2 tys.length (cA, ty) (by rw [List.getElem?_append_right (Nat.le_refl _), Nat.sub_self]; rfl)).2
  have e2 := hno _ (hK.2 t0 (d, ty) ht).2
  obtain rfl : cA = d := Option.some.inj (e1.symm.trans e2)
  exact kk q H1 hP1 hD1 hS1
variable {own C : String} {T : u_T} {N ci idx n maxL : Nat} {y : MethodName} {bytes : ByteArray} {ret : Option FieldType} {rm : Room} {ty : List (ClassId × FieldType)} {w wr : va_W} {h : Nat} {fs : List Value} {As st : List Value}
theorem kj_i {S : Type} {post : Int32 → S → Prop} {w1 : S → va_W} (hC : CallFix p m c cc nL s args lw_all own) (hM : Met l y (ws_ y bytes maxL ret) rm (cP D ty w H.size (.ref h :: As)) (cQi D ty w H.size post w1) 0 0 (va_A w H.size)) (cw : CallW R s args own C idx y bytes maxL ret (ws_ y bytes maxL ret) rm 0 0 n) (hw : w[0]? = some (h, .inr (ci, fs))) (hci : vwCl[ci]? = some (C, T, N)) (hn : As.length = n) (hl : ls.size = nL) (hst : st = As.reverse ++ .ref h :: rest) (hW : (rest.map fun v => v.category).sum ≤ 8) (hcs : cells ≤ R.cells ∧ slots ≤ R.slots) (hP : va_P D vwCl (w ++ wr) H) (hK : va_K D vwCl ty s) (hD : va_D A (w ++ wr)) (hS : va_S A H0 H locs) (hA : ∀ q, H0.size ≤ q → A q) (hdg : decode cc pc = .ok (.invokevirtual idx, 3)) (kk : ∀ (r : Int32) (u : S) (H1 : Heap) (locs1 : List Loc), post r u → va_P D vwCl (wr ++ w1 u) H1 → va_D A (wr ++ w1 u) → va_S A H0 H1 locs1 → W p l e R s m args below meth c H1 locs1 cells slots Q (F0 m (pc + 3) ls (.int r :: rest))) : W p l e R s m args below meth c H locs cells slots Q (F0 m pc ls st) := by
  have hPc := va_Pl hP
  have hDc := va_Dl hD
  have hF := va_all hDc hS hA
  refine va_calli (va_runV (As := As) (rest := rest) hC hM cw ⟨fun a U g mk q => by obtain ⟨q0, q1, qP, qK, qD⟩ := q; exact ⟨q0, q1, qP, va_K.moved (u := U) (U := U.calling g mk a) (Vm.Alike.refl U.vm) qK, qD⟩, va_recv hK hPc hci hw, fun U hU hW => ⟨rfl, by rw [hU], by rw [hU]; exact hPc, va_K.moved hW.alike hK, hDc.weaken (fun _ _ _ _ => trivial)⟩⟩ rfl hn hl hst (lv_room hW) hdg hcs) hS (fun q _ hq => hF q hq) hF (fun r u t H1 locs1 ht hvm hw1 hB hz1 hk1 hS1 => ?_)
  obtain ⟨hP1, hK1, hD1⟩ := hB
  rw [ht] at hP1
  obtain ⟨hP2, hD2⟩ := va_joinG hP hD hk1 hF hP1 hD1
  exact kk r u H1 locs1 hw1 hP2 hD2 hS1
theorem kj_I {S : Type} {post : S → Prop} {w1 : S → va_W} {mc ms : Nat} (hC : CallFix p m c cc nL s args lw_all own) (hM : Met l y (ws_ y bytes maxL none) rm (cP D ty w H.size (.ref h :: As)) (cQv D ty w H.size post w1) mc ms (va_A w H.size)) (cw : CallB R s args own idx y bytes maxL none (ws_ y bytes maxL none) rm mc ms n ∧ y.name = "<init>" ∧ (Cond.instanceMethod y).before args s = true) (hn : As.length = n) (hl : ls.size = nL) (hst : st = As.reverse ++ .ref h :: rest) (hW : (rest.map fun v => v.category).sum ≤ 8) (hcs : cells + mc ≤ R.cells ∧ slots + ms ≤ R.slots) (hP : va_P D vwCl (w ++ wr) H) (hK : va_K D vwCl ty s) (hD : va_D A (w ++ wr)) (hS : va_S A H0 H locs) (hA : ∀ q, H0.size ≤ q → A q) (hdg : decode cc pc = .ok (.invokespecial idx, 3)) (kk : ∀ (u : S) (H1 : Heap) (locs1 : List Loc), post u → va_P D vwCl (wr ++ w1 u) H1 → va_D A (wr ++ w1 u) → va_S A H0 H1 locs1 → W p l e R s m args below meth c H1 locs1 (cells + mc) (slots + ms) Q (F0 m (pc + 3) ls rest)) : W p l e R s m args below meth c H locs cells slots Q (F0 m pc ls st) := by
  have hPc := va_Pl hP
  have hDc := va_Dl hD
  have hF := va_all hDc hS hA
  refine va_callv (va_runI (As := As) (rest := rest) hC hM cw ⟨fun a U g mk q => by obtain ⟨q0, q1, qP, qK, qD⟩ := q; exact ⟨q0, q1, qP, va_K.moved (u := U) (U := U.calling g mk a) (Vm.Alike.refl U.vm) qK, qD⟩, fun U hU hW => ⟨rfl, by rw [hU], by rw [hU]; exact hPc, va_K.moved hW.alike hK, hDc.weaken (fun _ _ _ _ => trivial)⟩⟩ rfl hn hl hst (lv_room hW) hdg hcs) hS (fun q _ hq => hF q hq) hF (fun u t H1 locs1 ht hvm hw1 hB hz1 hk1 hS1 => ?_)
  obtain ⟨hP1, hK1, hD1⟩ := hB
  rw [ht] at hP1
  obtain ⟨hP2, hD2⟩ := va_joinG hP hD hk1 hF hP1 hD1
  exact kk u H1 locs1 hw1 hP2 hD2 hS1
end
set_option maxHeartbeats 1000000 in
theorem en_c {S : Type} {l : Launch} {y : MethodName} {cc : ByteArray} {n mc ms : Nat} {rm : Room} {D : va_G} {ty : List (ClassId × FieldType)} {w : va_W} {av : List Value} {sz : Nat} {post : S → Prop} {w1 : S → va_W} (hy : plainName y.cls = true) (hyn : y.name = "<init>") (hn : (lg_sl av).length ≤ n)
    (body : ∀ (p : Program) (e : Env) (s : State) (m : MethodId) (below : List Frame) (meth : Method) (c : Code) (ls : Array Slot) (Q : State → Prop) (A : Nat → Prop), CallFix p m c cc n s av.toArray lw_all y.cls → meth.name = "<init>" → va_P D vwCl w s.heap → va_K D vwCl ty s → va_D A w → (∀ q : Nat, s.heap.size ≤ q → A q) → va_S A s.heap s.heap [] → lv_has ls n (lv_args 0 av) → (∀ (H : Heap) (locs : List Loc) (pc : Nat) (ls : Array Slot) (u : S), decode cc pc = .ok (.return_, 1) → post u → va_P D vwCl (w1 u) H → va_D A (w1 u) → va_S A s.heap H locs → W p l e rm s m av.toArray below meth c H locs mc ms Q (F0 m pc ls [])) → W p l e rm s m av.toArray below meth c s.heap [] 0 0 Q (F0 m 0 ls [])) :
    Met l y (ws_ y cc n none) rm (cP D ty w sz av) (cQv D ty w sz post w1) mc ms (va_A w sz) := by
  refine Met.ofW (cc := cc) (maxL := n) (ret := none) hy rfl ?_
  intro p e s m args below meth c s₁ B hml hv
  obtain ⟨rfl, hsz, hP, hK, hD0⟩ := hv
  have hts := atoms_spec (ws := ws_ y cc n (none)) B.pre
  have hts : ∀ w ∈ lw_all, w.before _ s = true := fun w h => hts w (List.mem_cons_of_mem _ h)
  have hown : s.vm.findClass y.cls = some m.cls := findClass_of_methodNamed B.named
  have hnm : meth.name = "<init>" := ((name_of_methodNamed B.named B.method).1).trans hyn
  have hl := lv_entry av (n := n) hn
  rw [lg_entry_eq]
  generalize (lg_sl av ++ List.replicate (n - (lg_sl av).length) Slot.unset).toArray = ls at hl ⊢
  subst hsz
  have hD := hD0.self (sz := s.heap.size)
  have hlk := B.notSynchronized
  refine body p e s m below meth c ls _ (va_A w s.heap.size) ⟨B.exec, B.bytes, hml, hown, hts⟩ hnm hP hK hD (fun q h => Or.inr h) va_S.rf hl (fun H locs pc ls u hd hp hP1 hD1 hS1 => ?_)
  exact W.vret B.exec B.bytes B.returns (fun t ht hW => ⟨⟨u, rfl, hp, by rw [ht]; exact hP1, va_K.moved hW.alike hK, hD1⟩, hS1.F ht⟩) hS1.2.2 hd
def z0 : Nat → Nat := fun _ => 0
theorem z0_rk : rk z0 36 = 0 := by decide +kernel
theorem z0_nu : ∀ c, c < 36 → (fun _ => 0 : Nat → Int32) c = nI (z0 c) ∧ z0 c ≤ 8 := fun c _ => ⟨nI_0.symm, Nat.zero_le _⟩
theorem z0_7 : rk z0 36 ≤ 7 := by rw [z0_rk]; omega
abbrev w0_b (h : Nat) : va_W := [(h, .inr (0, [.null, .int 0, .int 0, .null, .null, .int 0, .null, .null, .null, .null, .int 0, .int 0, .int 0, .null, .null, .null, .null]))]
abbrev rm_b_init : Room := { frames := 2, cells := 11, slots := 198, locals := 50 }
set_option maxHeartbeats 4000000 in
set_option maxRecDepth 100000 in
theorem t_b_init (l : Launch) (D : va_G) (h : Nat) (dI dJ : ClassId) (sz : Nat) : Met l yX0_init (ws_ yX0_init cX0_init 1 none) rm_b_init (cP D (kB dI dJ) (w0_b h) sz [.ref h]) (cQv D (kB dI dJ) (w0_b h) sz (fun w : va_W => BBh h dI dJ z0 w) (fun w : va_W => w)) 11 198 (va_A (w0_b h) sz) := by
  refine en_c (by decide) rfl (Nat.le_of_ble_eq_true rfl) ?_
  intro p e s m below meth c ls Q A hC hnm hP hK hD hA hS hl hret
  have hC : CallFix p m c cX0_init 1 s _ lw_all RX0 := hC
  have hx := hC.1
  have hb := hC.2.1
  have hl : lv_has ls 1 [(0, .ref h)] := hl
  refine lv_aload_n hx hb dX0_init_0 rfl (lv_at hl 0 rfl) ?_
  refine W.objInit hx hb hC.2.2.2.1 (hC.2.2.2.2 _ q31) (hC.2.2.2.2 _ q32) (hC.2.2.2.2 _ q33) rfl (hl.1.trans hC.2.2.1.symm) rfl dX0_init_1 (Nat.le_of_ble_eq_true rfl) (Nat.le_of_ble_eq_true rfl) ?_
  refine W.eq (g2 := F0 m 4 ls []) rfl ?_
  refine lv_aload_n hx hb dX0_init_4 rfl (lv_at hl 0 rfl) ?_
  refine lv_bipush (v := nI 36) hx hb dX0_init_5 (by decide) ?_
  refine nw_a (atype := .int) (ty := .int) (n := nI 36) (N' := 36) (a0 := (36, .inl (fun _ => 0))) hx hb (hC.2.2.2.2 _ q94) rfl (fun _ h9 => h9) 0 rfl hK hP hD hS hA (fun _ => rfl) (by decide) (by decide) (by decide) (Nat.le_of_ble_eq_true rfl) (Nat.le_of_ble_eq_true rfl) dX0_init_7 (fun q0 H hP hD hS => ?_)
  refine W.widen (k := 1) (n := 36) (Nat.le_of_ble_eq_true rfl) (Nat.le_of_ble_eq_true rfl) ?_
  have hP : va_P D vwCl [(h, .inr (0, [.null, .int 0, .int 0, .null, .null, .int 0, .null, .null, .null, .null, .int 0, .int 0, .int 0, .null, .null, .null, .null])), (q0, .inl (dI, 36, .inl (fun _ => 0)))] H := hP
  have hD : va_D A [(h, .inr (0, [.null, .int 0, .int 0, .null, .null, .int 0, .null, .null, .null, .null, .int 0, .int 0, .int 0, .null, .null, .null, .null])), (q0, .inl (dI, 36, .inl (fun _ => 0)))] := hD
  refine va_putF (D := D) (ci := 0) (v := .ref q0) (ty := .array .int) (C := RX0) (T := TX0) (N := 17) hx hb hC.2.2.2.2 in_X0 tyX0 tyX0_ok nmX0 hC.2.2.2.1 hK hP hD hS 0 rfl rfl 0 (by decide) (hC.2.2.2.2 _ q42) (fun _ h9 => h9) rfl hnm rfl (by decide +kernel) rfl rfl (Nat.le_of_ble_eq_true rfl) dX0_init_9 (fun H locs hP hD hS => ?_)
  have hP : va_P D vwCl [(h, .inr (0, [.ref q0, .int 0, .int 0, .null, .null, .int 0, .null, .null, .null, .null, .int 0, .int 0, .int 0, .null, .null, .null, .null])), (q0, .inl (dI, 36, .inl (fun _ => 0)))] H := hP
  have hD : va_D A [(h, .inr (0, [.ref q0, .int 0, .int 0, .null, .null, .int 0, .null, .null, .null, .null, .int 0, .int 0, .int 0, .null, .null, .null, .null])), (q0, .inl (dI, 36, .inl (fun _ => 0)))] := hD
  refine lv_aload_n hx hb dX0_init_12 rfl (lv_at hl 0 rfl) ?_
  refine lv_bipush (v := nI 8) hx hb dX0_init_13 (by decide) ?_
  refine nw_a (atype := .int) (ty := .int) (n := nI 8) (N' := 8) (a0 := (8, .inl (fun _ => 0))) hx hb (hC.2.2.2.2 _ q94) rfl (fun _ h9 => h9) 0 rfl hK hP hD hS hA (fun _ => rfl) (by decide) (by decide) (by decide) (Nat.le_of_ble_eq_true rfl) (Nat.le_of_ble_eq_true rfl) dX0_init_15 (fun q1 H hP hD hS => ?_)
  refine W.widen (k := 2) (n := 44) (Nat.le_of_ble_eq_true rfl) (Nat.le_of_ble_eq_true rfl) ?_
  have hP : va_P D vwCl [(h, .inr (0, [.ref q0, .int 0, .int 0, .null, .null, .int 0, .null, .null, .null, .null, .int 0, .int 0, .int 0, .null, .null, .null, .null])), (q0, .inl (dI, 36, .inl (fun _ => 0))), (q1, .inl (dI, 8, .inl (fun _ => 0)))] H := hP
  have hD : va_D A [(h, .inr (0, [.ref q0, .int 0, .int 0, .null, .null, .int 0, .null, .null, .null, .null, .int 0, .int 0, .int 0, .null, .null, .null, .null])), (q0, .inl (dI, 36, .inl (fun _ => 0))), (q1, .inl (dI, 8, .inl (fun _ => 0)))] := hD
  refine va_putF (D := D) (ci := 0) (v := .ref q1) (ty := .array .int) (C := RX0) (T := TX0) (N := 17) hx hb hC.2.2.2.2 in_X0 tyX0 tyX0_ok nmX0 hC.2.2.2.1 hK hP hD hS 0 rfl rfl 3 (by decide) (hC.2.2.2.2 _ q45) (fun _ h9 => h9) rfl hnm rfl (by decide +kernel) rfl rfl (Nat.le_of_ble_eq_true rfl) dX0_init_17 (fun H locs hP hD hS => ?_)
  have hP : va_P D vwCl [(h, .inr (0, [.ref q0, .int 0, .int 0, .ref q1, .null, .int 0, .null, .null, .null, .null, .int 0, .int 0, .int 0, .null, .null, .null, .null])), (q0, .inl (dI, 36, .inl (fun _ => 0))), (q1, .inl (dI, 8, .inl (fun _ => 0)))] H := hP
  have hD : va_D A [(h, .inr (0, [.ref q0, .int 0, .int 0, .ref q1, .null, .int 0, .null, .null, .null, .null, .int 0, .int 0, .int 0, .null, .null, .null, .null])), (q0, .inl (dI, 36, .inl (fun _ => 0))), (q1, .inl (dI, 8, .inl (fun _ => 0)))] := hD
  refine lv_aload_n hx hb dX0_init_20 rfl (lv_at hl 0 rfl) ?_
  refine lv_bipush (v := nI 36) hx hb dX0_init_21 (by decide) ?_
  refine nw_a (atype := .int) (ty := .int) (n := nI 36) (N' := 36) (a0 := (36, .inl (fun _ => 0))) hx hb (hC.2.2.2.2 _ q94) rfl (fun _ h9 => h9) 0 rfl hK hP hD hS hA (fun _ => rfl) (by decide) (by decide) (by decide) (Nat.le_of_ble_eq_true rfl) (Nat.le_of_ble_eq_true rfl) dX0_init_23 (fun q2 H hP hD hS => ?_)
  refine W.widen (k := 3) (n := 80) (Nat.le_of_ble_eq_true rfl) (Nat.le_of_ble_eq_true rfl) ?_
  have hP : va_P D vwCl [(h, .inr (0, [.ref q0, .int 0, .int 0, .ref q1, .null, .int 0, .null, .null, .null, .null, .int 0, .int 0, .int 0, .null, .null, .null, .null])), (q0, .inl (dI, 36, .inl (fun _ => 0))), (q1, .inl (dI, 8, .inl (fun _ => 0))), (q2, .inl (dI, 36, .inl (fun _ => 0)))] H := hP
  have hD : va_D A [(h, .inr (0, [.ref q0, .int 0, .int 0, .ref q1, .null, .int 0, .null, .null, .null, .null, .int 0, .int 0, .int 0, .null, .null, .null, .null])), (q0, .inl (dI, 36, .inl (fun _ => 0))), (q1, .inl (dI, 8, .inl (fun _ => 0))), (q2, .inl (dI, 36, .inl (fun _ => 0)))] := hD
  refine va_putF (D := D) (ci := 0) (v := .ref q2) (ty := .array .int) (C := RX0) (T := TX0) (N := 17) hx hb hC.2.2.2.2 in_X0 tyX0 tyX0_ok nmX0 hC.2.2.2.1 hK hP hD hS 0 rfl rfl 4 (by decide) (hC.2.2.2.2 _ q46) (fun _ h9 => h9) rfl hnm rfl (by decide +kernel) rfl rfl (Nat.le_of_ble_eq_true rfl) dX0_init_25 (fun H locs hP hD hS => ?_)
  have hP : va_P D vwCl [(h, .inr (0, [.ref q0, .int 0, .int 0, .ref q1, .ref q2, .int 0, .null, .null, .null, .null, .int 0, .int 0, .int 0, .null, .null, .null, .null])), (q0, .inl (dI, 36, .inl (fun _ => 0))), (q1, .inl (dI, 8, .inl (fun _ => 0))), (q2, .inl (dI, 36, .inl (fun _ => 0)))] H := hP
  have hD : va_D A [(h, .inr (0, [.ref q0, .int 0, .int 0, .ref q1, .ref q2, .int 0, .null, .null, .null, .null, .int 0, .int 0, .int 0, .null, .null, .null, .null])), (q0, .inl (dI, 36, .inl (fun _ => 0))), (q1, .inl (dI, 8, .inl (fun _ => 0))), (q2, .inl (dI, 36, .inl (fun _ => 0)))] := hD
  refine lv_aload_n hx hb dX0_init_28 rfl (lv_at hl 0 rfl) ?_
  refine lv_bipush (v := nI 16) hx hb dX0_init_29 (by decide) ?_
  refine nw_a (atype := .int) (ty := .int) (n := nI 16) (N' := 16) (a0 := (16, .inl (fun _ => 0))) hx hb (hC.2.2.2.2 _ q94) rfl (fun _ h9 => h9) 0 rfl hK hP hD hS hA (fun _ => rfl) (by decide) (by decide) (by decide) (Nat.le_of_ble_eq_true rfl) (Nat.le_of_ble_eq_true rfl) dX0_init_31 (fun q3 H hP hD hS => ?_)
  refine W.widen (k := 4) (n := 96) (Nat.le_of_ble_eq_true rfl) (Nat.le_of_ble_eq_true rfl) ?_
  have hP : va_P D vwCl [(h, .inr (0, [.ref q0, .int 0, .int 0, .ref q1, .ref q2, .int 0, .null, .null, .null, .null, .int 0, .int 0, .int 0, .null, .null, .null, .null])), (q0, .inl (dI, 36, .inl (fun _ => 0))), (q1, .inl (dI, 8, .inl (fun _ => 0))), (q2, .inl (dI, 36, .inl (fun _ => 0))), (q3, .inl (dI, 16, .inl (fun _ => 0)))] H := hP
  have hD : va_D A [(h, .inr (0, [.ref q0, .int 0, .int 0, .ref q1, .ref q2, .int 0, .null, .null, .null, .null, .int 0, .int 0, .int 0, .null, .null, .null, .null])), (q0, .inl (dI, 36, .inl (fun _ => 0))), (q1, .inl (dI, 8, .inl (fun _ => 0))), (q2, .inl (dI, 36, .inl (fun _ => 0))), (q3, .inl (dI, 16, .inl (fun _ => 0)))] := hD
  refine va_putF (D := D) (ci := 0) (v := .ref q3) (ty := .array .int) (C := RX0) (T := TX0) (N := 17) hx hb hC.2.2.2.2 in_X0 tyX0 tyX0_ok nmX0 hC.2.2.2.1 hK hP hD hS 0 rfl rfl 6 (by decide) (hC.2.2.2.2 _ q48) (fun _ h9 => h9) rfl hnm rfl (by decide +kernel) rfl rfl (Nat.le_of_ble_eq_true rfl) dX0_init_33 (fun H locs hP hD hS => ?_)
  have hP : va_P D vwCl [(h, .inr (0, [.ref q0, .int 0, .int 0, .ref q1, .ref q2, .int 0, .ref q3, .null, .null, .null, .int 0, .int 0, .int 0, .null, .null, .null, .null])), (q0, .inl (dI, 36, .inl (fun _ => 0))), (q1, .inl (dI, 8, .inl (fun _ => 0))), (q2, .inl (dI, 36, .inl (fun _ => 0))), (q3, .inl (dI, 16, .inl (fun _ => 0)))] H := hP
  have hD : va_D A [(h, .inr (0, [.ref q0, .int 0, .int 0, .ref q1, .ref q2, .int 0, .ref q3, .null, .null, .null, .int 0, .int 0, .int 0, .null, .null, .null, .null])), (q0, .inl (dI, 36, .inl (fun _ => 0))), (q1, .inl (dI, 8, .inl (fun _ => 0))), (q2, .inl (dI, 36, .inl (fun _ => 0))), (q3, .inl (dI, 16, .inl (fun _ => 0)))] := hD
  refine lv_aload_n hx hb dX0_init_36 rfl (lv_at hl 0 rfl) ?_
  refine lv_bipush (v := nI 16) hx hb dX0_init_37 (by decide) ?_
  refine nw_a (atype := .int) (ty := .int) (n := nI 16) (N' := 16) (a0 := (16, .inl (fun _ => 0))) hx hb (hC.2.2.2.2 _ q94) rfl (fun _ h9 => h9) 0 rfl hK hP hD hS hA (fun _ => rfl) (by decide) (by decide) (by decide) (Nat.le_of_ble_eq_true rfl) (Nat.le_of_ble_eq_true rfl) dX0_init_39 (fun q4 H hP hD hS => ?_)
  refine W.widen (k := 5) (n := 112) (Nat.le_of_ble_eq_true rfl) (Nat.le_of_ble_eq_true rfl) ?_
  have hP : va_P D vwCl [(h, .inr (0, [.ref q0, .int 0, .int 0, .ref q1, .ref q2, .int 0, .ref q3, .null, .null, .null, .int 0, .int 0, .int 0, .null, .null, .null, .null])), (q0, .inl (dI, 36, .inl (fun _ => 0))), (q1, .inl (dI, 8, .inl (fun _ => 0))), (q2, .inl (dI, 36, .inl (fun _ => 0))), (q3, .inl (dI, 16, .inl (fun _ => 0))), (q4, .inl (dI, 16, .inl (fun _ => 0)))] H := hP
  have hD : va_D A [(h, .inr (0, [.ref q0, .int 0, .int 0, .ref q1, .ref q2, .int 0, .ref q3, .null, .null, .null, .int 0, .int 0, .int 0, .null, .null, .null, .null])), (q0, .inl (dI, 36, .inl (fun _ => 0))), (q1, .inl (dI, 8, .inl (fun _ => 0))), (q2, .inl (dI, 36, .inl (fun _ => 0))), (q3, .inl (dI, 16, .inl (fun _ => 0))), (q4, .inl (dI, 16, .inl (fun _ => 0)))] := hD
  refine va_putF (D := D) (ci := 0) (v := .ref q4) (ty := .array .int) (C := RX0) (T := TX0) (N := 17) hx hb hC.2.2.2.2 in_X0 tyX0 tyX0_ok nmX0 hC.2.2.2.1 hK hP hD hS 0 rfl rfl 7 (by decide) (hC.2.2.2.2 _ q49) (fun _ h9 => h9) rfl hnm rfl (by decide +kernel) rfl rfl (Nat.le_of_ble_eq_true rfl) dX0_init_41 (fun H locs hP hD hS => ?_)
  have hP : va_P D vwCl [(h, .inr (0, [.ref q0, .int 0, .int 0, .ref q1, .ref q2, .int 0, .ref q3, .ref q4, .null, .null, .int 0, .int 0, .int 0, .null, .null, .null, .null])), (q0, .inl (dI, 36, .inl (fun _ => 0))), (q1, .inl (dI, 8, .inl (fun _ => 0))), (q2, .inl (dI, 36, .inl (fun _ => 0))), (q3, .inl (dI, 16, .inl (fun _ => 0))), (q4, .inl (dI, 16, .inl (fun _ => 0)))] H := hP
  have hD : va_D A [(h, .inr (0, [.ref q0, .int 0, .int 0, .ref q1, .ref q2, .int 0, .ref q3, .ref q4, .null, .null, .int 0, .int 0, .int 0, .null, .null, .null, .null])), (q0, .inl (dI, 36, .inl (fun _ => 0))), (q1, .inl (dI, 8, .inl (fun _ => 0))), (q2, .inl (dI, 36, .inl (fun _ => 0))), (q3, .inl (dI, 16, .inl (fun _ => 0))), (q4, .inl (dI, 16, .inl (fun _ => 0)))] := hD
  refine lv_aload_n hx hb dX0_init_44 rfl (lv_at hl 0 rfl) ?_
  refine lv_bipush (v := nI 16) hx hb dX0_init_45 (by decide) ?_
  refine nw_a (atype := .long) (ty := .long) (n := nI 16) (N' := 16) (a0 := (16, .inr (.inl (fun _ => 0)))) hx hb (hC.2.2.2.2 _ q95) rfl (fun _ h9 => h9) 1 rfl hK hP hD hS hA (fun _ => rfl) (by decide) (by decide) (by decide) (Nat.le_of_ble_eq_true rfl) (Nat.le_of_ble_eq_true rfl) dX0_init_47 (fun q5 H hP hD hS => ?_)
  refine W.widen (k := 6) (n := 128) (Nat.le_of_ble_eq_true rfl) (Nat.le_of_ble_eq_true rfl) ?_
  have hP : va_P D vwCl [(h, .inr (0, [.ref q0, .int 0, .int 0, .ref q1, .ref q2, .int 0, .ref q3, .ref q4, .null, .null, .int 0, .int 0, .int 0, .null, .null, .null, .null])), (q0, .inl (dI, 36, .inl (fun _ => 0))), (q1, .inl (dI, 8, .inl (fun _ => 0))), (q2, .inl (dI, 36, .inl (fun _ => 0))), (q3, .inl (dI, 16, .inl (fun _ => 0))), (q4, .inl (dI, 16, .inl (fun _ => 0))), (q5, .inl (dJ, 16, .inr (.inl (fun _ => 0))))] H := hP
  have hD : va_D A [(h, .inr (0, [.ref q0, .int 0, .int 0, .ref q1, .ref q2, .int 0, .ref q3, .ref q4, .null, .null, .int 0, .int 0, .int 0, .null, .null, .null, .null])), (q0, .inl (dI, 36, .inl (fun _ => 0))), (q1, .inl (dI, 8, .inl (fun _ => 0))), (q2, .inl (dI, 36, .inl (fun _ => 0))), (q3, .inl (dI, 16, .inl (fun _ => 0))), (q4, .inl (dI, 16, .inl (fun _ => 0))), (q5, .inl (dJ, 16, .inr (.inl (fun _ => 0))))] := hD
  refine va_putF (D := D) (ci := 0) (v := .ref q5) (ty := .array .long) (C := RX0) (T := TX0) (N := 17) hx hb hC.2.2.2.2 in_X0 tyX0 tyX0_ok nmX0 hC.2.2.2.1 hK hP hD hS 0 rfl rfl 8 (by decide) (hC.2.2.2.2 _ q50) (fun _ h9 => h9) rfl hnm rfl (by decide +kernel) rfl rfl (Nat.le_of_ble_eq_true rfl) dX0_init_49 (fun H locs hP hD hS => ?_)
  have hP : va_P D vwCl [(h, .inr (0, [.ref q0, .int 0, .int 0, .ref q1, .ref q2, .int 0, .ref q3, .ref q4, .ref q5, .null, .int 0, .int 0, .int 0, .null, .null, .null, .null])), (q0, .inl (dI, 36, .inl (fun _ => 0))), (q1, .inl (dI, 8, .inl (fun _ => 0))), (q2, .inl (dI, 36, .inl (fun _ => 0))), (q3, .inl (dI, 16, .inl (fun _ => 0))), (q4, .inl (dI, 16, .inl (fun _ => 0))), (q5, .inl (dJ, 16, .inr (.inl (fun _ => 0))))] H := hP
  have hD : va_D A [(h, .inr (0, [.ref q0, .int 0, .int 0, .ref q1, .ref q2, .int 0, .ref q3, .ref q4, .ref q5, .null, .int 0, .int 0, .int 0, .null, .null, .null, .null])), (q0, .inl (dI, 36, .inl (fun _ => 0))), (q1, .inl (dI, 8, .inl (fun _ => 0))), (q2, .inl (dI, 36, .inl (fun _ => 0))), (q3, .inl (dI, 16, .inl (fun _ => 0))), (q4, .inl (dI, 16, .inl (fun _ => 0))), (q5, .inl (dJ, 16, .inr (.inl (fun _ => 0))))] := hD
  refine lv_aload_n hx hb dX0_init_52 rfl (lv_at hl 0 rfl) ?_
  refine lv_bipush (v := nI 16) hx hb dX0_init_53 (by decide) ?_
  refine nw_a (atype := .int) (ty := .int) (n := nI 16) (N' := 16) (a0 := (16, .inl (fun _ => 0))) hx hb (hC.2.2.2.2 _ q94) rfl (fun _ h9 => h9) 0 rfl hK hP hD hS hA (fun _ => rfl) (by decide) (by decide) (by decide) (Nat.le_of_ble_eq_true rfl) (Nat.le_of_ble_eq_true rfl) dX0_init_55 (fun q6 H hP hD hS => ?_)
  refine W.widen (k := 7) (n := 144) (Nat.le_of_ble_eq_true rfl) (Nat.le_of_ble_eq_true rfl) ?_
  have hP : va_P D vwCl [(h, .inr (0, [.ref q0, .int 0, .int 0, .ref q1, .ref q2, .int 0, .ref q3, .ref q4, .ref q5, .null, .int 0, .int 0, .int 0, .null, .null, .null, .null])), (q0, .inl (dI, 36, .inl (fun _ => 0))), (q1, .inl (dI, 8, .inl (fun _ => 0))), (q2, .inl (dI, 36, .inl (fun _ => 0))), (q3, .inl (dI, 16, .inl (fun _ => 0))), (q4, .inl (dI, 16, .inl (fun _ => 0))), (q5, .inl (dJ, 16, .inr (.inl (fun _ => 0)))), (q6, .inl (dI, 16, .inl (fun _ => 0)))] H := hP
  have hD : va_D A [(h, .inr (0, [.ref q0, .int 0, .int 0, .ref q1, .ref q2, .int 0, .ref q3, .ref q4, .ref q5, .null, .int 0, .int 0, .int 0, .null, .null, .null, .null])), (q0, .inl (dI, 36, .inl (fun _ => 0))), (q1, .inl (dI, 8, .inl (fun _ => 0))), (q2, .inl (dI, 36, .inl (fun _ => 0))), (q3, .inl (dI, 16, .inl (fun _ => 0))), (q4, .inl (dI, 16, .inl (fun _ => 0))), (q5, .inl (dJ, 16, .inr (.inl (fun _ => 0)))), (q6, .inl (dI, 16, .inl (fun _ => 0)))] := hD
  refine va_putF (D := D) (ci := 0) (v := .ref q6) (ty := .array .int) (C := RX0) (T := TX0) (N := 17) hx hb hC.2.2.2.2 in_X0 tyX0 tyX0_ok nmX0 hC.2.2.2.1 hK hP hD hS 0 rfl rfl 9 (by decide) (hC.2.2.2.2 _ q51) (fun _ h9 => h9) rfl hnm rfl (by decide +kernel) rfl rfl (Nat.le_of_ble_eq_true rfl) dX0_init_57 (fun H locs hP hD hS => ?_)
  have hP : va_P D vwCl [(h, .inr (0, [.ref q0, .int 0, .int 0, .ref q1, .ref q2, .int 0, .ref q3, .ref q4, .ref q5, .ref q6, .int 0, .int 0, .int 0, .null, .null, .null, .null])), (q0, .inl (dI, 36, .inl (fun _ => 0))), (q1, .inl (dI, 8, .inl (fun _ => 0))), (q2, .inl (dI, 36, .inl (fun _ => 0))), (q3, .inl (dI, 16, .inl (fun _ => 0))), (q4, .inl (dI, 16, .inl (fun _ => 0))), (q5, .inl (dJ, 16, .inr (.inl (fun _ => 0)))), (q6, .inl (dI, 16, .inl (fun _ => 0)))] H := hP
  have hD : va_D A [(h, .inr (0, [.ref q0, .int 0, .int 0, .ref q1, .ref q2, .int 0, .ref q3, .ref q4, .ref q5, .ref q6, .int 0, .int 0, .int 0, .null, .null, .null, .null])), (q0, .inl (dI, 36, .inl (fun _ => 0))), (q1, .inl (dI, 8, .inl (fun _ => 0))), (q2, .inl (dI, 36, .inl (fun _ => 0))), (q3, .inl (dI, 16, .inl (fun _ => 0))), (q4, .inl (dI, 16, .inl (fun _ => 0))), (q5, .inl (dJ, 16, .inr (.inl (fun _ => 0)))), (q6, .inl (dI, 16, .inl (fun _ => 0)))] := hD
  refine lv_aload_n hx hb dX0_init_60 rfl (lv_at hl 0 rfl) ?_
  refine lv_bipush (v := nI 24) hx hb dX0_init_61 (by decide) ?_
  refine nw_a (atype := .int) (ty := .int) (n := nI 24) (N' := 24) (a0 := (24, .inl (fun _ => 0))) hx hb (hC.2.2.2.2 _ q94) rfl (fun _ h9 => h9) 0 rfl hK hP hD hS hA (fun _ => rfl) (by decide) (by decide) (by decide) (Nat.le_of_ble_eq_true rfl) (Nat.le_of_ble_eq_true rfl) dX0_init_63 (fun q7 H hP hD hS => ?_)
  refine W.widen (k := 8) (n := 168) (Nat.le_of_ble_eq_true rfl) (Nat.le_of_ble_eq_true rfl) ?_
  have hP : va_P D vwCl [(h, .inr (0, [.ref q0, .int 0, .int 0, .ref q1, .ref q2, .int 0, .ref q3, .ref q4, .ref q5, .ref q6, .int 0, .int 0, .int 0, .null, .null, .null, .null])), (q0, .inl (dI, 36, .inl (fun _ => 0))), (q1, .inl (dI, 8, .inl (fun _ => 0))), (q2, .inl (dI, 36, .inl (fun _ => 0))), (q3, .inl (dI, 16, .inl (fun _ => 0))), (q4, .inl (dI, 16, .inl (fun _ => 0))), (q5, .inl (dJ, 16, .inr (.inl (fun _ => 0)))), (q6, .inl (dI, 16, .inl (fun _ => 0))), (q7, .inl (dI, 24, .inl (fun _ => 0)))] H := hP
  have hD : va_D A [(h, .inr (0, [.ref q0, .int 0, .int 0, .ref q1, .ref q2, .int 0, .ref q3, .ref q4, .ref q5, .ref q6, .int 0, .int 0, .int 0, .null, .null, .null, .null])), (q0, .inl (dI, 36, .inl (fun _ => 0))), (q1, .inl (dI, 8, .inl (fun _ => 0))), (q2, .inl (dI, 36, .inl (fun _ => 0))), (q3, .inl (dI, 16, .inl (fun _ => 0))), (q4, .inl (dI, 16, .inl (fun _ => 0))), (q5, .inl (dJ, 16, .inr (.inl (fun _ => 0)))), (q6, .inl (dI, 16, .inl (fun _ => 0))), (q7, .inl (dI, 24, .inl (fun _ => 0)))] := hD
  refine va_putF (D := D) (ci := 0) (v := .ref q7) (ty := .array .int) (C := RX0) (T := TX0) (N := 17) hx hb hC.2.2.2.2 in_X0 tyX0 tyX0_ok nmX0 hC.2.2.2.1 hK hP hD hS 0 rfl rfl 13 (by decide) (hC.2.2.2.2 _ q55) (fun _ h9 => h9) rfl hnm rfl (by decide +kernel) rfl rfl (Nat.le_of_ble_eq_true rfl) dX0_init_65 (fun H locs hP hD hS => ?_)
  have hP : va_P D vwCl [(h, .inr (0, [.ref q0, .int 0, .int 0, .ref q1, .ref q2, .int 0, .ref q3, .ref q4, .ref q5, .ref q6, .int 0, .int 0, .int 0, .ref q7, .null, .null, .null])), (q0, .inl (dI, 36, .inl (fun _ => 0))), (q1, .inl (dI, 8, .inl (fun _ => 0))), (q2, .inl (dI, 36, .inl (fun _ => 0))), (q3, .inl (dI, 16, .inl (fun _ => 0))), (q4, .inl (dI, 16, .inl (fun _ => 0))), (q5, .inl (dJ, 16, .inr (.inl (fun _ => 0)))), (q6, .inl (dI, 16, .inl (fun _ => 0))), (q7, .inl (dI, 24, .inl (fun _ => 0)))] H := hP
  have hD : va_D A [(h, .inr (0, [.ref q0, .int 0, .int 0, .ref q1, .ref q2, .int 0, .ref q3, .ref q4, .ref q5, .ref q6, .int 0, .int 0, .int 0, .ref q7, .null, .null, .null])), (q0, .inl (dI, 36, .inl (fun _ => 0))), (q1, .inl (dI, 8, .inl (fun _ => 0))), (q2, .inl (dI, 36, .inl (fun _ => 0))), (q3, .inl (dI, 16, .inl (fun _ => 0))), (q4, .inl (dI, 16, .inl (fun _ => 0))), (q5, .inl (dJ, 16, .inr (.inl (fun _ => 0)))), (q6, .inl (dI, 16, .inl (fun _ => 0))), (q7, .inl (dI, 24, .inl (fun _ => 0)))] := hD
  refine lv_aload_n hx hb dX0_init_68 rfl (lv_at hl 0 rfl) ?_
  refine lv_bipush (v := nI 10) hx hb dX0_init_69 (by decide) ?_
  refine nw_a (atype := .int) (ty := .int) (n := nI 10) (N' := 10) (a0 := (10, .inl (fun _ => 0))) hx hb (hC.2.2.2.2 _ q94) rfl (fun _ h9 => h9) 0 rfl hK hP hD hS hA (fun _ => rfl) (by decide) (by decide) (by decide) (Nat.le_of_ble_eq_true rfl) (Nat.le_of_ble_eq_true rfl) dX0_init_71 (fun q8 H hP hD hS => ?_)
  refine W.widen (k := 9) (n := 178) (Nat.le_of_ble_eq_true rfl) (Nat.le_of_ble_eq_true rfl) ?_
  have hP : va_P D vwCl [(h, .inr (0, [.ref q0, .int 0, .int 0, .ref q1, .ref q2, .int 0, .ref q3, .ref q4, .ref q5, .ref q6, .int 0, .int 0, .int 0, .ref q7, .null, .null, .null])), (q0, .inl (dI, 36, .inl (fun _ => 0))), (q1, .inl (dI, 8, .inl (fun _ => 0))), (q2, .inl (dI, 36, .inl (fun _ => 0))), (q3, .inl (dI, 16, .inl (fun _ => 0))), (q4, .inl (dI, 16, .inl (fun _ => 0))), (q5, .inl (dJ, 16, .inr (.inl (fun _ => 0)))), (q6, .inl (dI, 16, .inl (fun _ => 0))), (q7, .inl (dI, 24, .inl (fun _ => 0))), (q8, .inl (dI, 10, .inl (fun _ => 0)))] H := hP
  have hD : va_D A [(h, .inr (0, [.ref q0, .int 0, .int 0, .ref q1, .ref q2, .int 0, .ref q3, .ref q4, .ref q5, .ref q6, .int 0, .int 0, .int 0, .ref q7, .null, .null, .null])), (q0, .inl (dI, 36, .inl (fun _ => 0))), (q1, .inl (dI, 8, .inl (fun _ => 0))), (q2, .inl (dI, 36, .inl (fun _ => 0))), (q3, .inl (dI, 16, .inl (fun _ => 0))), (q4, .inl (dI, 16, .inl (fun _ => 0))), (q5, .inl (dJ, 16, .inr (.inl (fun _ => 0)))), (q6, .inl (dI, 16, .inl (fun _ => 0))), (q7, .inl (dI, 24, .inl (fun _ => 0))), (q8, .inl (dI, 10, .inl (fun _ => 0)))] := hD
  refine va_putF (D := D) (ci := 0) (v := .ref q8) (ty := .array .int) (C := RX0) (T := TX0) (N := 17) hx hb hC.2.2.2.2 in_X0 tyX0 tyX0_ok nmX0 hC.2.2.2.1 hK hP hD hS 0 rfl rfl 14 (by decide) (hC.2.2.2.2 _ q56) (fun _ h9 => h9) rfl hnm rfl (by decide +kernel) rfl rfl (Nat.le_of_ble_eq_true rfl) dX0_init_73 (fun H locs hP hD hS => ?_)
  have hP : va_P D vwCl [(h, .inr (0, [.ref q0, .int 0, .int 0, .ref q1, .ref q2, .int 0, .ref q3, .ref q4, .ref q5, .ref q6, .int 0, .int 0, .int 0, .ref q7, .ref q8, .null, .null])), (q0, .inl (dI, 36, .inl (fun _ => 0))), (q1, .inl (dI, 8, .inl (fun _ => 0))), (q2, .inl (dI, 36, .inl (fun _ => 0))), (q3, .inl (dI, 16, .inl (fun _ => 0))), (q4, .inl (dI, 16, .inl (fun _ => 0))), (q5, .inl (dJ, 16, .inr (.inl (fun _ => 0)))), (q6, .inl (dI, 16, .inl (fun _ => 0))), (q7, .inl (dI, 24, .inl (fun _ => 0))), (q8, .inl (dI, 10, .inl (fun _ => 0)))] H := hP
  have hD : va_D A [(h, .inr (0, [.ref q0, .int 0, .int 0, .ref q1, .ref q2, .int 0, .ref q3, .ref q4, .ref q5, .ref q6, .int 0, .int 0, .int 0, .ref q7, .ref q8, .null, .null])), (q0, .inl (dI, 36, .inl (fun _ => 0))), (q1, .inl (dI, 8, .inl (fun _ => 0))), (q2, .inl (dI, 36, .inl (fun _ => 0))), (q3, .inl (dI, 16, .inl (fun _ => 0))), (q4, .inl (dI, 16, .inl (fun _ => 0))), (q5, .inl (dJ, 16, .inr (.inl (fun _ => 0)))), (q6, .inl (dI, 16, .inl (fun _ => 0))), (q7, .inl (dI, 24, .inl (fun _ => 0))), (q8, .inl (dI, 10, .inl (fun _ => 0)))] := hD
  refine lv_aload_n hx hb dX0_init_76 rfl (lv_at hl 0 rfl) ?_
  refine lv_bipush (v := nI 10) hx hb dX0_init_77 (by decide) ?_
  refine nw_a (atype := .int) (ty := .int) (n := nI 10) (N' := 10) (a0 := (10, .inl (fun _ => 0))) hx hb (hC.2.2.2.2 _ q94) rfl (fun _ h9 => h9) 0 rfl hK hP hD hS hA (fun _ => rfl) (by decide) (by decide) (by decide) (Nat.le_of_ble_eq_true rfl) (Nat.le_of_ble_eq_true rfl) dX0_init_79 (fun q9 H hP hD hS => ?_)
  refine W.widen (k := 10) (n := 188) (Nat.le_of_ble_eq_true rfl) (Nat.le_of_ble_eq_true rfl) ?_
  have hP : va_P D vwCl [(h, .inr (0, [.ref q0, .int 0, .int 0, .ref q1, .ref q2, .int 0, .ref q3, .ref q4, .ref q5, .ref q6, .int 0, .int 0, .int 0, .ref q7, .ref q8, .null, .null])), (q0, .inl (dI, 36, .inl (fun _ => 0))), (q1, .inl (dI, 8, .inl (fun _ => 0))), (q2, .inl (dI, 36, .inl (fun _ => 0))), (q3, .inl (dI, 16, .inl (fun _ => 0))), (q4, .inl (dI, 16, .inl (fun _ => 0))), (q5, .inl (dJ, 16, .inr (.inl (fun _ => 0)))), (q6, .inl (dI, 16, .inl (fun _ => 0))), (q7, .inl (dI, 24, .inl (fun _ => 0))), (q8, .inl (dI, 10, .inl (fun _ => 0))), (q9, .inl (dI, 10, .inl (fun _ => 0)))] H := hP
  have hD : va_D A [(h, .inr (0, [.ref q0, .int 0, .int 0, .ref q1, .ref q2, .int 0, .ref q3, .ref q4, .ref q5, .ref q6, .int 0, .int 0, .int 0, .ref q7, .ref q8, .null, .null])), (q0, .inl (dI, 36, .inl (fun _ => 0))), (q1, .inl (dI, 8, .inl (fun _ => 0))), (q2, .inl (dI, 36, .inl (fun _ => 0))), (q3, .inl (dI, 16, .inl (fun _ => 0))), (q4, .inl (dI, 16, .inl (fun _ => 0))), (q5, .inl (dJ, 16, .inr (.inl (fun _ => 0)))), (q6, .inl (dI, 16, .inl (fun _ => 0))), (q7, .inl (dI, 24, .inl (fun _ => 0))), (q8, .inl (dI, 10, .inl (fun _ => 0))), (q9, .inl (dI, 10, .inl (fun _ => 0)))] := hD
  refine va_putF (D := D) (ci := 0) (v := .ref q9) (ty := .array .int) (C := RX0) (T := TX0) (N := 17) hx hb hC.2.2.2.2 in_X0 tyX0 tyX0_ok nmX0 hC.2.2.2.1 hK hP hD hS 0 rfl rfl 15 (by decide) (hC.2.2.2.2 _ q57) (fun _ h9 => h9) rfl hnm rfl (by decide +kernel) rfl rfl (Nat.le_of_ble_eq_true rfl) dX0_init_81 (fun H locs hP hD hS => ?_)
  have hP : va_P D vwCl [(h, .inr (0, [.ref q0, .int 0, .int 0, .ref q1, .ref q2, .int 0, .ref q3, .ref q4, .ref q5, .ref q6, .int 0, .int 0, .int 0, .ref q7, .ref q8, .ref q9, .null])), (q0, .inl (dI, 36, .inl (fun _ => 0))), (q1, .inl (dI, 8, .inl (fun _ => 0))), (q2, .inl (dI, 36, .inl (fun _ => 0))), (q3, .inl (dI, 16, .inl (fun _ => 0))), (q4, .inl (dI, 16, .inl (fun _ => 0))), (q5, .inl (dJ, 16, .inr (.inl (fun _ => 0)))), (q6, .inl (dI, 16, .inl (fun _ => 0))), (q7, .inl (dI, 24, .inl (fun _ => 0))), (q8, .inl (dI, 10, .inl (fun _ => 0))), (q9, .inl (dI, 10, .inl (fun _ => 0)))] H := hP
  have hD : va_D A [(h, .inr (0, [.ref q0, .int 0, .int 0, .ref q1, .ref q2, .int 0, .ref q3, .ref q4, .ref q5, .ref q6, .int 0, .int 0, .int 0, .ref q7, .ref q8, .ref q9, .null])), (q0, .inl (dI, 36, .inl (fun _ => 0))), (q1, .inl (dI, 8, .inl (fun _ => 0))), (q2, .inl (dI, 36, .inl (fun _ => 0))), (q3, .inl (dI, 16, .inl (fun _ => 0))), (q4, .inl (dI, 16, .inl (fun _ => 0))), (q5, .inl (dJ, 16, .inr (.inl (fun _ => 0)))), (q6, .inl (dI, 16, .inl (fun _ => 0))), (q7, .inl (dI, 24, .inl (fun _ => 0))), (q8, .inl (dI, 10, .inl (fun _ => 0))), (q9, .inl (dI, 10, .inl (fun _ => 0)))] := hD
  refine lv_aload_n hx hb dX0_init_84 rfl (lv_at hl 0 rfl) ?_
  refine lv_bipush (v := nI 10) hx hb dX0_init_85 (by decide) ?_
  refine nw_a (atype := .int) (ty := .int) (n := nI 10) (N' := 10) (a0 := (10, .inl (fun _ => 0))) hx hb (hC.2.2.2.2 _ q94) rfl (fun _ h9 => h9) 0 rfl hK hP hD hS hA (fun _ => rfl) (by decide) (by decide) (by decide) (Nat.le_of_ble_eq_true rfl) (Nat.le_of_ble_eq_true rfl) dX0_init_87 (fun q10 H hP hD hS => ?_)
  refine W.widen (k := 11) (n := 198) (Nat.le_of_ble_eq_true rfl) (Nat.le_of_ble_eq_true rfl) ?_
  have hP : va_P D vwCl [(h, .inr (0, [.ref q0, .int 0, .int 0, .ref q1, .ref q2, .int 0, .ref q3, .ref q4, .ref q5, .ref q6, .int 0, .int 0, .int 0, .ref q7, .ref q8, .ref q9, .null])), (q0, .inl (dI, 36, .inl (fun _ => 0))), (q1, .inl (dI, 8, .inl (fun _ => 0))), (q2, .inl (dI, 36, .inl (fun _ => 0))), (q3, .inl (dI, 16, .inl (fun _ => 0))), (q4, .inl (dI, 16, .inl (fun _ => 0))), (q5, .inl (dJ, 16, .inr (.inl (fun _ => 0)))), (q6, .inl (dI, 16, .inl (fun _ => 0))), (q7, .inl (dI, 24, .inl (fun _ => 0))), (q8, .inl (dI, 10, .inl (fun _ => 0))), (q9, .inl (dI, 10, .inl (fun _ => 0))), (q10, .inl (dI, 10, .inl (fun _ => 0)))] H := hP
  have hD : va_D A [(h, .inr (0, [.ref q0, .int 0, .int 0, .ref q1, .ref q2, .int 0, .ref q3, .ref q4, .ref q5, .ref q6, .int 0, .int 0, .int 0, .ref q7, .ref q8, .ref q9, .null])), (q0, .inl (dI, 36, .inl (fun _ => 0))), (q1, .inl (dI, 8, .inl (fun _ => 0))), (q2, .inl (dI, 36, .inl (fun _ => 0))), (q3, .inl (dI, 16, .inl (fun _ => 0))), (q4, .inl (dI, 16, .inl (fun _ => 0))), (q5, .inl (dJ, 16, .inr (.inl (fun _ => 0)))), (q6, .inl (dI, 16, .inl (fun _ => 0))), (q7, .inl (dI, 24, .inl (fun _ => 0))), (q8, .inl (dI, 10, .inl (fun _ => 0))), (q9, .inl (dI, 10, .inl (fun _ => 0))), (q10, .inl (dI, 10, .inl (fun _ => 0)))] := hD
  refine va_putF (D := D) (ci := 0) (v := .ref q10) (ty := .array .int) (C := RX0) (T := TX0) (N := 17) hx hb hC.2.2.2.2 in_X0 tyX0 tyX0_ok nmX0 hC.2.2.2.1 hK hP hD hS 0 rfl rfl 16 (by decide) (hC.2.2.2.2 _ q58) (fun _ h9 => h9) rfl hnm rfl (by decide +kernel) rfl rfl (Nat.le_of_ble_eq_true rfl) dX0_init_89 (fun H locs hP hD hS => ?_)
  have hP : va_P D vwCl [(h, .inr (0, [.ref q0, .int 0, .int 0, .ref q1, .ref q2, .int 0, .ref q3, .ref q4, .ref q5, .ref q6, .int 0, .int 0, .int 0, .ref q7, .ref q8, .ref q9, .ref q10])), (q0, .inl (dI, 36, .inl (fun _ => 0))), (q1, .inl (dI, 8, .inl (fun _ => 0))), (q2, .inl (dI, 36, .inl (fun _ => 0))), (q3, .inl (dI, 16, .inl (fun _ => 0))), (q4, .inl (dI, 16, .inl (fun _ => 0))), (q5, .inl (dJ, 16, .inr (.inl (fun _ => 0)))), (q6, .inl (dI, 16, .inl (fun _ => 0))), (q7, .inl (dI, 24, .inl (fun _ => 0))), (q8, .inl (dI, 10, .inl (fun _ => 0))), (q9, .inl (dI, 10, .inl (fun _ => 0))), (q10, .inl (dI, 10, .inl (fun _ => 0)))] H := hP
  have hD : va_D A [(h, .inr (0, [.ref q0, .int 0, .int 0, .ref q1, .ref q2, .int 0, .ref q3, .ref q4, .ref q5, .ref q6, .int 0, .int 0, .int 0, .ref q7, .ref q8, .ref q9, .ref q10])), (q0, .inl (dI, 36, .inl (fun _ => 0))), (q1, .inl (dI, 8, .inl (fun _ => 0))), (q2, .inl (dI, 36, .inl (fun _ => 0))), (q3, .inl (dI, 16, .inl (fun _ => 0))), (q4, .inl (dI, 16, .inl (fun _ => 0))), (q5, .inl (dJ, 16, .inr (.inl (fun _ => 0)))), (q6, .inl (dI, 16, .inl (fun _ => 0))), (q7, .inl (dI, 24, .inl (fun _ => 0))), (q8, .inl (dI, 10, .inl (fun _ => 0))), (q9, .inl (dI, 10, .inl (fun _ => 0))), (q10, .inl (dI, 10, .inl (fun _ => 0)))] := hD
  obtain ⟨a, ea⟩ : ∃ a : Nat → Nat, a = (fun k : Nat => match k with | 0 => q0 | 1 => q1 | 2 => q2 | 3 => q3 | 4 => q4 | 5 => q5 | 6 => q6 | 7 => q7 | 8 => q8 | 9 => q9 | _ => q10) := ⟨_, rfl⟩
  have ea0 : q0 = a 0 := by subst ea; rfl
  have ea1 : q1 = a 1 := by subst ea; rfl
  have ea2 : q2 = a 2 := by subst ea; rfl
  have ea3 : q3 = a 3 := by subst ea; rfl
  have ea4 : q4 = a 4 := by subst ea; rfl
  have ea5 : q5 = a 5 := by subst ea; rfl
  have ea6 : q6 = a 6 := by subst ea; rfl
  have ea7 : q7 = a 7 := by subst ea; rfl
  have ea8 : q8 = a 8 := by subst ea; rfl
  have ea9 : q9 = a 9 := by subst ea; rfl
  have ea10 : q10 = a 10 := by subst ea; rfl
  rw [ea0, ea1, ea2, ea3, ea4, ea5, ea6, ea7, ea8, ea9, ea10] at hP hD
  have hP : va_P D vwCl (bbW h a dI dJ 0 0 0 0 0 0 (fun _ => 0) (fun _ => 0) (fun _ => 0) (fun _ => 0) (fun _ => 0) (fun _ => 0) (fun _ => 0) (fun _ => 0) (fun _ => 0) (fun _ => 0) (fun _ => 0)) H := hP
  have hD : va_D A (bbW h a dI dJ 0 0 0 0 0 0 (fun _ => 0) (fun _ => 0) (fun _ => 0) (fun _ => 0) (fun _ => 0) (fun _ => 0) (fun _ => 0) (fun _ => 0) (fun _ => 0) (fun _ => 0) (fun _ => 0)) := hD
  refine lv_aload_n hx hb dX0_init_92 rfl (lv_at hl 0 rfl) ?_
  refine km_v hC (t_b_listGaps l D h a dI dJ 0 0 0 0 0 0 (fun _ => 0) (fun _ => 0) (fun _ => 0) (fun _ => 0) (fun _ => 0) (fun _ => 0) (fun _ => 0) (fun _ => 0) (fun _ => 0) (fun _ => 0) (fun _ => 0) z0 z0_nu z0_7 H.size) (cwV 0 hC.2.2.2.2 (lw_V q34 q36 qs0 q24 q37) rfl rfl rfl (by decide +kernel) ⟨Nat.le_of_ble_eq_true rfl, Nat.le_of_ble_eq_true rfl⟩) rfl rfl rfl hl.1 rfl (Nat.le_of_ble_eq_true rfl) ⟨Nat.le_of_ble_eq_true rfl, Nat.le_of_ble_eq_true rfl⟩ hP hK hD hS hA dX0_init_93 (fun u H locs hLG hP hD hS => ?_)
  obtain ⟨co1, ix1, ne1, di1, be1, cr1⟩ := u
  exact hret _ _ 96 _ (bbW h a dI dJ 0 (nI (rk z0 36)) (nI (gL z0).length) (bo false) 0 0 (fun _ => 0) co1 ix1 ne1 di1 be1 cr1 (fun _ => 0) (fun _ => 0) (fun _ => 0) (fun _ => 0)) dX0_init_96 ⟨a, 0, nI (rk z0 36), nI (gL z0).length, bo false, 0, 0, (fun _ => 0), co1, ix1, ne1, di1, be1, cr1, (fun _ => 0), (fun _ => 0), (fun _ => 0), (fun _ => 0), rfl, ⟨z0_nu, z0_7, by rw [z0_rk, nI_0], rfl, rfl, hLG, false, rfl, fun h => by cases h⟩⟩ hP hD hS
abbrev w0_m (h : Nat) : va_W := [(h, .inr (1, [.null, .int 0, .null, .null, .null, .null, .null]))]
abbrev rm_m_init : Room := { frames := 1, cells := 6, slots := 136, locals := 20 }
set_option maxHeartbeats 4000000 in
set_option maxRecDepth 100000 in
theorem t_m_init (l : Launch) (D : va_G) (h : Nat) (dI dJ dZ : ClassId) (sz : Nat) : Met l yX1_init (ws_ yX1_init cX1_init 1 none) rm_m_init (cP D (kM dI dJ dZ) (w0_m h) sz [.ref h]) (cQv D (kM dI dJ dZ) (w0_m h) sz (fun w : va_W => MDh h dI dJ dZ z0 w) (fun w : va_W => w)) 6 136 (va_A (w0_m h) sz) := by
  refine en_c (by decide) rfl (Nat.le_of_ble_eq_true rfl) ?_
  intro p e s m below meth c ls Q A hC hnm hP hK hD hA hS hl hret
  have hC : CallFix p m c cX1_init 1 s _ lw_all RX1 := hC
  have hx := hC.1
  have hb := hC.2.1
  have hl : lv_has ls 1 [(0, .ref h)] := hl
  refine lv_aload_n hx hb dX1_init_0 rfl (lv_at hl 0 rfl) ?_
  refine W.objInit hx hb hC.2.2.2.1 (hC.2.2.2.2 _ q200) (hC.2.2.2.2 _ q32) (hC.2.2.2.2 _ q33) rfl (hl.1.trans hC.2.2.1.symm) rfl dX1_init_1 (Nat.le_of_ble_eq_true rfl) (Nat.le_of_ble_eq_true rfl) ?_
  refine W.eq (g2 := F0 m 4 ls []) rfl ?_
  refine lv_aload_n hx hb dX1_init_4 rfl (lv_at hl 0 rfl) ?_
  refine lv_bipush (v := nI 36) hx hb dX1_init_5 (by decide) ?_
  refine nw_a (atype := .int) (ty := .int) (n := nI 36) (N' := 36) (a0 := (36, .inl (fun _ => 0))) hx hb (hC.2.2.2.2 _ q94) rfl (fun _ h9 => h9) 0 rfl hK hP hD hS hA (fun _ => rfl) (by decide) (by decide) (by decide) (Nat.le_of_ble_eq_true rfl) (Nat.le_of_ble_eq_true rfl) dX1_init_7 (fun q0 H hP hD hS => ?_)
  refine W.widen (k := 1) (n := 36) (Nat.le_of_ble_eq_true rfl) (Nat.le_of_ble_eq_true rfl) ?_
  have hP : va_P D vwCl [(h, .inr (1, [.null, .int 0, .null, .null, .null, .null, .null])), (q0, .inl (dI, 36, .inl (fun _ => 0)))] H := hP
  have hD : va_D A [(h, .inr (1, [.null, .int 0, .null, .null, .null, .null, .null])), (q0, .inl (dI, 36, .inl (fun _ => 0)))] := hD
  refine va_putF (D := D) (ci := 1) (v := .ref q0) (ty := .array .int) (C := RX1) (T := TX1) (N := 7) hx hb hC.2.2.2.2 in_X1 tyX1 tyX1_ok nmX1 hC.2.2.2.1 hK hP hD hS 0 rfl rfl 0 (by decide) (hC.2.2.2.2 _ q201) (fun _ h9 => h9) rfl hnm rfl (by decide +kernel) rfl rfl (Nat.le_of_ble_eq_true rfl) dX1_init_9 (fun H locs hP hD hS => ?_)
  have hP : va_P D vwCl [(h, .inr (1, [.ref q0, .int 0, .null, .null, .null, .null, .null])), (q0, .inl (dI, 36, .inl (fun _ => 0)))] H := hP
  have hD : va_D A [(h, .inr (1, [.ref q0, .int 0, .null, .null, .null, .null, .null])), (q0, .inl (dI, 36, .inl (fun _ => 0)))] := hD
  refine lv_aload_n hx hb dX1_init_12 rfl (lv_at hl 0 rfl) ?_
  refine lv_bipush (v := nI 16) hx hb dX1_init_13 (by decide) ?_
  refine nw_a (atype := .int) (ty := .int) (n := nI 16) (N' := 16) (a0 := (16, .inl (fun _ => 0))) hx hb (hC.2.2.2.2 _ q94) rfl (fun _ h9 => h9) 0 rfl hK hP hD hS hA (fun _ => rfl) (by decide) (by decide) (by decide) (Nat.le_of_ble_eq_true rfl) (Nat.le_of_ble_eq_true rfl) dX1_init_15 (fun q1 H hP hD hS => ?_)
  refine W.widen (k := 2) (n := 52) (Nat.le_of_ble_eq_true rfl) (Nat.le_of_ble_eq_true rfl) ?_
  have hP : va_P D vwCl [(h, .inr (1, [.ref q0, .int 0, .null, .null, .null, .null, .null])), (q0, .inl (dI, 36, .inl (fun _ => 0))), (q1, .inl (dI, 16, .inl (fun _ => 0)))] H := hP
  have hD : va_D A [(h, .inr (1, [.ref q0, .int 0, .null, .null, .null, .null, .null])), (q0, .inl (dI, 36, .inl (fun _ => 0))), (q1, .inl (dI, 16, .inl (fun _ => 0)))] := hD
  refine va_putF (D := D) (ci := 1) (v := .ref q1) (ty := .array .int) (C := RX1) (T := TX1) (N := 7) hx hb hC.2.2.2.2 in_X1 tyX1 tyX1_ok nmX1 hC.2.2.2.1 hK hP hD hS 0 rfl rfl 2 (by decide) (hC.2.2.2.2 _ q203) (fun _ h9 => h9) rfl hnm rfl (by decide +kernel) rfl rfl (Nat.le_of_ble_eq_true rfl) dX1_init_17 (fun H locs hP hD hS => ?_)
  have hP : va_P D vwCl [(h, .inr (1, [.ref q0, .int 0, .ref q1, .null, .null, .null, .null])), (q0, .inl (dI, 36, .inl (fun _ => 0))), (q1, .inl (dI, 16, .inl (fun _ => 0)))] H := hP
  have hD : va_D A [(h, .inr (1, [.ref q0, .int 0, .ref q1, .null, .null, .null, .null])), (q0, .inl (dI, 36, .inl (fun _ => 0))), (q1, .inl (dI, 16, .inl (fun _ => 0)))] := hD
  refine lv_aload_n hx hb dX1_init_20 rfl (lv_at hl 0 rfl) ?_
  refine lv_bipush (v := nI 16) hx hb dX1_init_21 (by decide) ?_
  refine nw_a (atype := .int) (ty := .int) (n := nI 16) (N' := 16) (a0 := (16, .inl (fun _ => 0))) hx hb (hC.2.2.2.2 _ q94) rfl (fun _ h9 => h9) 0 rfl hK hP hD hS hA (fun _ => rfl) (by decide) (by decide) (by decide) (Nat.le_of_ble_eq_true rfl) (Nat.le_of_ble_eq_true rfl) dX1_init_23 (fun q2 H hP hD hS => ?_)
  refine W.widen (k := 3) (n := 68) (Nat.le_of_ble_eq_true rfl) (Nat.le_of_ble_eq_true rfl) ?_
  have hP : va_P D vwCl [(h, .inr (1, [.ref q0, .int 0, .ref q1, .null, .null, .null, .null])), (q0, .inl (dI, 36, .inl (fun _ => 0))), (q1, .inl (dI, 16, .inl (fun _ => 0))), (q2, .inl (dI, 16, .inl (fun _ => 0)))] H := hP
  have hD : va_D A [(h, .inr (1, [.ref q0, .int 0, .ref q1, .null, .null, .null, .null])), (q0, .inl (dI, 36, .inl (fun _ => 0))), (q1, .inl (dI, 16, .inl (fun _ => 0))), (q2, .inl (dI, 16, .inl (fun _ => 0)))] := hD
  refine va_putF (D := D) (ci := 1) (v := .ref q2) (ty := .array .int) (C := RX1) (T := TX1) (N := 7) hx hb hC.2.2.2.2 in_X1 tyX1 tyX1_ok nmX1 hC.2.2.2.1 hK hP hD hS 0 rfl rfl 3 (by decide) (hC.2.2.2.2 _ q204) (fun _ h9 => h9) rfl hnm rfl (by decide +kernel) rfl rfl (Nat.le_of_ble_eq_true rfl) dX1_init_25 (fun H locs hP hD hS => ?_)
  have hP : va_P D vwCl [(h, .inr (1, [.ref q0, .int 0, .ref q1, .ref q2, .null, .null, .null])), (q0, .inl (dI, 36, .inl (fun _ => 0))), (q1, .inl (dI, 16, .inl (fun _ => 0))), (q2, .inl (dI, 16, .inl (fun _ => 0)))] H := hP
  have hD : va_D A [(h, .inr (1, [.ref q0, .int 0, .ref q1, .ref q2, .null, .null, .null])), (q0, .inl (dI, 36, .inl (fun _ => 0))), (q1, .inl (dI, 16, .inl (fun _ => 0))), (q2, .inl (dI, 16, .inl (fun _ => 0)))] := hD
  refine lv_aload_n hx hb dX1_init_28 rfl (lv_at hl 0 rfl) ?_
  refine lv_bipush (v := nI 16) hx hb dX1_init_29 (by decide) ?_
  refine nw_a (atype := .long) (ty := .long) (n := nI 16) (N' := 16) (a0 := (16, .inr (.inl (fun _ => 0)))) hx hb (hC.2.2.2.2 _ q95) rfl (fun _ h9 => h9) 1 rfl hK hP hD hS hA (fun _ => rfl) (by decide) (by decide) (by decide) (Nat.le_of_ble_eq_true rfl) (Nat.le_of_ble_eq_true rfl) dX1_init_31 (fun q3 H hP hD hS => ?_)
  refine W.widen (k := 4) (n := 84) (Nat.le_of_ble_eq_true rfl) (Nat.le_of_ble_eq_true rfl) ?_
  have hP : va_P D vwCl [(h, .inr (1, [.ref q0, .int 0, .ref q1, .ref q2, .null, .null, .null])), (q0, .inl (dI, 36, .inl (fun _ => 0))), (q1, .inl (dI, 16, .inl (fun _ => 0))), (q2, .inl (dI, 16, .inl (fun _ => 0))), (q3, .inl (dJ, 16, .inr (.inl (fun _ => 0))))] H := hP
  have hD : va_D A [(h, .inr (1, [.ref q0, .int 0, .ref q1, .ref q2, .null, .null, .null])), (q0, .inl (dI, 36, .inl (fun _ => 0))), (q1, .inl (dI, 16, .inl (fun _ => 0))), (q2, .inl (dI, 16, .inl (fun _ => 0))), (q3, .inl (dJ, 16, .inr (.inl (fun _ => 0))))] := hD
  refine va_putF (D := D) (ci := 1) (v := .ref q3) (ty := .array .long) (C := RX1) (T := TX1) (N := 7) hx hb hC.2.2.2.2 in_X1 tyX1 tyX1_ok nmX1 hC.2.2.2.1 hK hP hD hS 0 rfl rfl 4 (by decide) (hC.2.2.2.2 _ q205) (fun _ h9 => h9) rfl hnm rfl (by decide +kernel) rfl rfl (Nat.le_of_ble_eq_true rfl) dX1_init_33 (fun H locs hP hD hS => ?_)
  have hP : va_P D vwCl [(h, .inr (1, [.ref q0, .int 0, .ref q1, .ref q2, .ref q3, .null, .null])), (q0, .inl (dI, 36, .inl (fun _ => 0))), (q1, .inl (dI, 16, .inl (fun _ => 0))), (q2, .inl (dI, 16, .inl (fun _ => 0))), (q3, .inl (dJ, 16, .inr (.inl (fun _ => 0))))] H := hP
  have hD : va_D A [(h, .inr (1, [.ref q0, .int 0, .ref q1, .ref q2, .ref q3, .null, .null])), (q0, .inl (dI, 36, .inl (fun _ => 0))), (q1, .inl (dI, 16, .inl (fun _ => 0))), (q2, .inl (dI, 16, .inl (fun _ => 0))), (q3, .inl (dJ, 16, .inr (.inl (fun _ => 0))))] := hD
  refine lv_aload_n hx hb dX1_init_36 rfl (lv_at hl 0 rfl) ?_
  refine lv_bipush (v := nI 16) hx hb dX1_init_37 (by decide) ?_
  refine nw_a (atype := .int) (ty := .int) (n := nI 16) (N' := 16) (a0 := (16, .inl (fun _ => 0))) hx hb (hC.2.2.2.2 _ q94) rfl (fun _ h9 => h9) 0 rfl hK hP hD hS hA (fun _ => rfl) (by decide) (by decide) (by decide) (Nat.le_of_ble_eq_true rfl) (Nat.le_of_ble_eq_true rfl) dX1_init_39 (fun q4 H hP hD hS => ?_)
  refine W.widen (k := 5) (n := 100) (Nat.le_of_ble_eq_true rfl) (Nat.le_of_ble_eq_true rfl) ?_
  have hP : va_P D vwCl [(h, .inr (1, [.ref q0, .int 0, .ref q1, .ref q2, .ref q3, .null, .null])), (q0, .inl (dI, 36, .inl (fun _ => 0))), (q1, .inl (dI, 16, .inl (fun _ => 0))), (q2, .inl (dI, 16, .inl (fun _ => 0))), (q3, .inl (dJ, 16, .inr (.inl (fun _ => 0)))), (q4, .inl (dI, 16, .inl (fun _ => 0)))] H := hP
  have hD : va_D A [(h, .inr (1, [.ref q0, .int 0, .ref q1, .ref q2, .ref q3, .null, .null])), (q0, .inl (dI, 36, .inl (fun _ => 0))), (q1, .inl (dI, 16, .inl (fun _ => 0))), (q2, .inl (dI, 16, .inl (fun _ => 0))), (q3, .inl (dJ, 16, .inr (.inl (fun _ => 0)))), (q4, .inl (dI, 16, .inl (fun _ => 0)))] := hD
  refine va_putF (D := D) (ci := 1) (v := .ref q4) (ty := .array .int) (C := RX1) (T := TX1) (N := 7) hx hb hC.2.2.2.2 in_X1 tyX1 tyX1_ok nmX1 hC.2.2.2.1 hK hP hD hS 0 rfl rfl 5 (by decide) (hC.2.2.2.2 _ q206) (fun _ h9 => h9) rfl hnm rfl (by decide +kernel) rfl rfl (Nat.le_of_ble_eq_true rfl) dX1_init_41 (fun H locs hP hD hS => ?_)
  have hP : va_P D vwCl [(h, .inr (1, [.ref q0, .int 0, .ref q1, .ref q2, .ref q3, .ref q4, .null])), (q0, .inl (dI, 36, .inl (fun _ => 0))), (q1, .inl (dI, 16, .inl (fun _ => 0))), (q2, .inl (dI, 16, .inl (fun _ => 0))), (q3, .inl (dJ, 16, .inr (.inl (fun _ => 0)))), (q4, .inl (dI, 16, .inl (fun _ => 0)))] H := hP
  have hD : va_D A [(h, .inr (1, [.ref q0, .int 0, .ref q1, .ref q2, .ref q3, .ref q4, .null])), (q0, .inl (dI, 36, .inl (fun _ => 0))), (q1, .inl (dI, 16, .inl (fun _ => 0))), (q2, .inl (dI, 16, .inl (fun _ => 0))), (q3, .inl (dJ, 16, .inr (.inl (fun _ => 0)))), (q4, .inl (dI, 16, .inl (fun _ => 0)))] := hD
  refine lv_aload_n hx hb dX1_init_44 rfl (lv_at hl 0 rfl) ?_
  refine lv_bipush (v := nI 36) hx hb dX1_init_45 (by decide) ?_
  refine nw_a (atype := .boolean) (ty := .boolean) (n := nI 36) (N' := 36) (a0 := (36, .inl (fun _ => 0))) hx hb (hC.2.2.2.2 _ q223) rfl (fun _ h9 => h9) 2 rfl hK hP hD hS hA (fun _ => rfl) (by decide) (by decide) (by decide) (Nat.le_of_ble_eq_true rfl) (Nat.le_of_ble_eq_true rfl) dX1_init_47 (fun q5 H hP hD hS => ?_)
  refine W.widen (k := 6) (n := 136) (Nat.le_of_ble_eq_true rfl) (Nat.le_of_ble_eq_true rfl) ?_
  have hP : va_P D vwCl [(h, .inr (1, [.ref q0, .int 0, .ref q1, .ref q2, .ref q3, .ref q4, .null])), (q0, .inl (dI, 36, .inl (fun _ => 0))), (q1, .inl (dI, 16, .inl (fun _ => 0))), (q2, .inl (dI, 16, .inl (fun _ => 0))), (q3, .inl (dJ, 16, .inr (.inl (fun _ => 0)))), (q4, .inl (dI, 16, .inl (fun _ => 0))), (q5, .inl (dZ, 36, .inl (fun _ => 0)))] H := hP
  have hD : va_D A [(h, .inr (1, [.ref q0, .int 0, .ref q1, .ref q2, .ref q3, .ref q4, .null])), (q0, .inl (dI, 36, .inl (fun _ => 0))), (q1, .inl (dI, 16, .inl (fun _ => 0))), (q2, .inl (dI, 16, .inl (fun _ => 0))), (q3, .inl (dJ, 16, .inr (.inl (fun _ => 0)))), (q4, .inl (dI, 16, .inl (fun _ => 0))), (q5, .inl (dZ, 36, .inl (fun _ => 0)))] := hD
  refine va_putF (D := D) (ci := 1) (v := .ref q5) (ty := .array .boolean) (C := RX1) (T := TX1) (N := 7) hx hb hC.2.2.2.2 in_X1 tyX1 tyX1_ok nmX1 hC.2.2.2.1 hK hP hD hS 0 rfl rfl 6 (by decide) (hC.2.2.2.2 _ q207) (fun _ h9 => h9) rfl hnm rfl (by decide +kernel) rfl rfl (Nat.le_of_ble_eq_true rfl) dX1_init_49 (fun H locs hP hD hS => ?_)
  have hP : va_P D vwCl [(h, .inr (1, [.ref q0, .int 0, .ref q1, .ref q2, .ref q3, .ref q4, .ref q5])), (q0, .inl (dI, 36, .inl (fun _ => 0))), (q1, .inl (dI, 16, .inl (fun _ => 0))), (q2, .inl (dI, 16, .inl (fun _ => 0))), (q3, .inl (dJ, 16, .inr (.inl (fun _ => 0)))), (q4, .inl (dI, 16, .inl (fun _ => 0))), (q5, .inl (dZ, 36, .inl (fun _ => 0)))] H := hP
  have hD : va_D A [(h, .inr (1, [.ref q0, .int 0, .ref q1, .ref q2, .ref q3, .ref q4, .ref q5])), (q0, .inl (dI, 36, .inl (fun _ => 0))), (q1, .inl (dI, 16, .inl (fun _ => 0))), (q2, .inl (dI, 16, .inl (fun _ => 0))), (q3, .inl (dJ, 16, .inr (.inl (fun _ => 0)))), (q4, .inl (dI, 16, .inl (fun _ => 0))), (q5, .inl (dZ, 36, .inl (fun _ => 0)))] := hD
  obtain ⟨a, ea⟩ : ∃ a : Nat → Nat, a = (fun k : Nat => match k with | 0 => q0 | 1 => q1 | 2 => q2 | 3 => q3 | 4 => q4 | _ => q5) := ⟨_, rfl⟩
  have ea0 : q0 = a 0 := by subst ea; rfl
  have ea1 : q1 = a 1 := by subst ea; rfl
  have ea2 : q2 = a 2 := by subst ea; rfl
  have ea3 : q3 = a 3 := by subst ea; rfl
  have ea4 : q4 = a 4 := by subst ea; rfl
  have ea5 : q5 = a 5 := by subst ea; rfl
  rw [ea0, ea1, ea2, ea3, ea4, ea5] at hP hD
  have hP : va_P D vwCl (mdW h a dI dJ dZ 0 (fun _ => 0) (fun _ => 0) (fun _ => 0) (fun _ => 0) (fun _ => 0) (fun _ => 0)) H := hP
  have hD : va_D A (mdW h a dI dJ dZ 0 (fun _ => 0) (fun _ => 0) (fun _ => 0) (fun _ => 0) (fun _ => 0) (fun _ => 0)) := hD
  exact hret _ _ 52 _ (mdW h a dI dJ dZ 0 (fun _ => 0) (fun _ => 0) (fun _ => 0) (fun _ => 0) (fun _ => 0) (fun _ => 0)) dX1_init_52 ⟨a, 0, (fun _ => 0), (fun _ => 0), (fun _ => 0), (fun _ => 0), (fun _ => 0), (fun _ => 0), rfl, ⟨z0_nu, z0_7⟩⟩ hP hD hS
end
section
/-! THE CLAIM OUT OF ONE WALK OF THE LAW'S BODY. Your part is whole_start (and what it stands on); all else here is the same for every law, but numbers. -/
def R_law : String := "BridgeBoardLaw"
def lw_P (b : Addr) (xs : List Int32) (args : Array Value) (s : State) : Prop := args = #[.ref b] ∧ s.IntsAt b xs ∧ xs.length ≤ 256 ∧ (Jvm.Cond.and given_1 narrow_1).before args s = true
def lw_Q (_ : Array Value) (s : State) (o : Outcome) (t : State) : Prop := o = .returned (some (.int 1)) ∧ Framed s o t [] 600000 7290000
def lw_Z (below : List Frame) (a : Array Value) (s : State) : State → Prop := fun t => ∃ o, t.status = .running ∧ Ended t below o ∧ lw_Q a s o t
/-- the law's own end, with 1 on the stack, nothing written that was there before, its room as the claim has it -/
theorem lw_ret {p : Program} {l : Launch} {e : Env} {s : State} {m : MethodId} {below : List Frame} {meth : Method} {c : Code} {b : Nat} (hx : p.tables.exec = Jvm.exec) (hb : c.code = code) (hr : meth.sig.returnType = ret) (hlocks : meth.locks = false) {pc : Nat} {H : Heap} {ls : Array Slot} (hdg : decode code pc = .ok (.ireturn, 1)) : W p l e room_1 s m #[Value.ref b] below meth c H [] 600000 7290000 (lw_Z below #[Value.ref b] s) (F0 m pc ls [.int 1]) := by
  intro T hT X
  obtain ⟨fs, hret, hrun, hended, hW, hframe⟩ := X.leave (v := some (.int 1)) (hlocks := hlocks) (fun h => by rw [hr] at h; cases h)
  have hmeth' : T.vm.method? m = some meth := X.method'
  refine ⟨T.setFrames fs, ?_, .returned (some (.int 1)), hrun, hended, rfl, ⟨_, rfl⟩, hW, hframe⟩
  jvm_step X.here [X.here.top, hx, hb, hdg, hmeth', hr, ret, narrow_b1]
  (try refine ⟨rfl, ?_⟩); (try refine ⟨rfl, ?_⟩)
  first | (intro acts; rw [hret _ acts rfl rfl rfl]) | rw [hret _ _ rfl rfl rfl]
  exact Steps.refl _
/-- what holds at the law's entry: the machine, the code, the tables' words (any of lw_tbl by 'hts w (by decide +kernel)'), the script of L ints xs at the cell b, what the Statement gives of the start (any of its parts by flat_of_before) -/
def lw_At (p : Program) (s : State) (m : MethodId) (meth : Method) (c : Code) (b L : Nat) (xs : Nat → Int32) : Prop :=
  p.tables.exec = Jvm.exec ∧ c.code = code ∧ meth.sig.returnType = ret ∧ c.maxLocals = 4 ∧ s.vm.findClass R_law = some m.cls ∧ (∀ w ∈ lw_tbl, w.before #[Value.ref b] s = true) ∧ va_X b L xs s s.heap ∧ b < s.heap.size ∧ meth.locks = false ∧ (Jvm.Cond.and given_1 narrow_1).before #[Value.ref b] s = true
set_option maxRecDepth 100000
theorem kL_b_place {p : Program} {l : Launch} {e : Env} {R : Room} {s : State} {m : MethodId} {args : Array Value} {below : List Frame} {meth : Method} {c : Code} {H : Heap} {locs : List Loc} {cells slots : Nat} {Q : State → Prop} {cc : ByteArray} {pc nL : Nat} {ls : Array Slot} {rest : List Value} {D : va_G} {A : Nat → Prop} {H0 : Heap} {h : Nat} {dI dJ dZ : ClassId} {num : Nat → Nat} {w wr : va_W} {x : Int32} {y : Int32} {z : Int32} (hC : CallFix p m c cc nL s args lw_all R_law) (hK : va_K D vwCl (kM dI dJ dZ) s) (hB : BBh h dI dJ num w) (hP : va_P D vwCl (w ++ wr) H) (hD : va_D A (w ++ wr)) (hS : va_S A H0 H locs) (hA : ∀ q, H0.size ≤ q → A q) (hR : rm_b_place.frames + 1 ≤ R.frames ∧ 8 + (5 + 11) + rm_b_place.locals ≤ R.locals) (hl : ls.size = nL) (hW : (rest.map fun v => v.category).sum ≤ 8) (hcs : cells ≤ R.cells ∧ slots ≤ R.slots) (hdg : decode cc pc = .ok (.invokevirtual 13, 3)) (kk : ∀ (w1 : va_W) (H1 : Heap) (locs1 : List Loc), BBh h dI dJ (nuP num x y z) w1 → va_P D vwCl (wr ++ w1) H1 → va_D A (wr ++ w1) → va_S A H0 H1 locs1 → W p l e R s m args below meth c H1 locs1 cells slots Q (F0 m (pc + 3) ls (.int (rsP num x y z) :: rest))) : W p l e R s m args below meth c H locs cells slots Q (F0 m pc ls (.int z :: .int y :: .int x :: .ref h :: rest)) := by
  obtain ⟨a, vIs, vLi, vGc, vSo, vSc, vLe, fNu, fCo, fIx, fNe, fDi, fBe, fCr, fCw, fDo, fCh, fNx, rfl, hB⟩ := hB
  refine kj_i hC (t_b_place l D h a dI dJ vIs vLi vGc vSo vSc vLe fNu fCo fIx fNe fDi fBe fCr fCw fDo fCh fNx num x y z hB H.size) (cwV 3 hC.2.2.2.2 (lw_V q96 q97 q98 q24 q99) rfl rfl rfl (by decide +kernel) hR) rfl rfl rfl hl rfl hW hcs hP (hK.sub [0, 1] rfl) hD hS hA hdg (fun r u H1 locs1 a1 a2 a3 a4 => ?_)
  obtain ⟨a1, rfl⟩ := a1
  exact kk _ H1 locs1 ⟨a, u.1, u.2.1, u.2.2.1, u.2.2.2.1, u.2.2.2.2.1, u.2.2.2.2.2.1, u.2.2.2.2.2.2.1, u.2.2.2.2.2.2.2.1, u.2.2.2.2.2.2.2.2.1, u.2.2.2.2.2.2.2.2.2.1, u.2.2.2.2.2.2.2.2.2.2.1, u.2.2.2.2.2.2.2.2.2.2.2.1, u.2.2.2.2.2.2.2.2.2.2.2.2.1, u.2.2.2.2.2.2.2.2.2.2.2.2.2.1, u.2.2.2.2.2.2.2.2.2.2.2.2.2.2.1, u.2.2.2.2.2.2.2.2.2.2.2.2.2.2.2.1, u.2.2.2.2.2.2.2.2.2.2.2.2.2.2.2.2, rfl, a1⟩ a2 a3 a4
theorem kL_b_remove {p : Program} {l : Launch} {e : Env} {R : Room} {s : State} {m : MethodId} {args : Array Value} {below : List Frame} {meth : Method} {c : Code} {H : Heap} {locs : List Loc} {cells slots : Nat} {Q : State → Prop} {cc : ByteArray} {pc nL : Nat} {ls : Array Slot} {rest : List Value} {D : va_G} {A : Nat → Prop} {H0 : Heap} {h : Nat} {dI dJ dZ : ClassId} {num : Nat → Nat} {w wr : va_W} {x : Int32} {y : Int32} (hC : CallFix p m c cc nL s args lw_all R_law) (hK : va_K D vwCl (kM dI dJ dZ) s) (hB : BBh h dI dJ num w) (hP : va_P D vwCl (w ++ wr) H) (hD : va_D A (w ++ wr)) (hS : va_S A H0 H locs) (hA : ∀ q, H0.size ≤ q → A q) (hR : rm_b_remove.frames + 1 ≤ R.frames ∧ 8 + (3 + 11) + rm_b_remove.locals ≤ R.locals) (hl : ls.size = nL) (hW : (rest.map fun v => v.category).sum ≤ 8) (hcs : cells ≤ R.cells ∧ slots ≤ R.slots) (hdg : decode cc pc = .ok (.invokevirtual 18, 3)) (kk : ∀ (w1 : va_W) (H1 : Heap) (locs1 : List Loc), BBh h dI dJ (nuR num x y) w1 → va_P D vwCl (wr ++ w1) H1 → va_D A (wr ++ w1) → va_S A H0 H1 locs1 → W p l e R s m args below meth c H1 locs1 cells slots Q (F0 m (pc + 3) ls (.int (rsR num x y) :: rest))) : W p l e R s m args below meth c H locs cells slots Q (F0 m pc ls (.int y :: .int x :: .ref h :: rest)) := by
  obtain ⟨a, vIs, vLi, vGc, vSo, vSc, vLe, fNu, fCo, fIx, fNe, fDi, fBe, fCr, fCw, fDo, fCh, fNx, rfl, hB⟩ := hB
  refine kj_i hC (t_b_remove l D h a dI dJ vIs vLi vGc vSo vSc vLe fNu fCo fIx fNe fDi fBe fCr fCw fDo fCh fNx num x y hB H.size) (cwV 2 hC.2.2.2.2 (lw_V q103 q104 q105 q24 q106) rfl rfl rfl (by decide +kernel) hR) rfl rfl rfl hl rfl hW hcs hP (hK.sub [0, 1] rfl) hD hS hA hdg (fun r u H1 locs1 a1 a2 a3 a4 => ?_)
  obtain ⟨a1, rfl⟩ := a1
  exact kk _ H1 locs1 ⟨a, u.1, u.2.1, u.2.2.1, u.2.2.2.1, u.2.2.2.2.1, u.2.2.2.2.2.1, u.2.2.2.2.2.2.1, u.2.2.2.2.2.2.2.1, u.2.2.2.2.2.2.2.2.1, u.2.2.2.2.2.2.2.2.2.1, u.2.2.2.2.2.2.2.2.2.2.1, u.2.2.2.2.2.2.2.2.2.2.2.1, u.2.2.2.2.2.2.2.2.2.2.2.2.1, u.2.2.2.2.2.2.2.2.2.2.2.2.2.1, u.2.2.2.2.2.2.2.2.2.2.2.2.2.2.1, u.2.2.2.2.2.2.2.2.2.2.2.2.2.2.2.1, u.2.2.2.2.2.2.2.2.2.2.2.2.2.2.2.2, rfl, a1⟩ a2 a3 a4
theorem kL_b_island {p : Program} {l : Launch} {e : Env} {R : Room} {s : State} {m : MethodId} {args : Array Value} {below : List Frame} {meth : Method} {c : Code} {H : Heap} {locs : List Loc} {cells slots : Nat} {Q : State → Prop} {cc : ByteArray} {pc nL : Nat} {ls : Array Slot} {rest : List Value} {D : va_G} {A : Nat → Prop} {H0 : Heap} {h : Nat} {dI dJ dZ : ClassId} {num : Nat → Nat} {w wr : va_W} {x : Int32} {y : Int32} (hC : CallFix p m c cc nL s args lw_all R_law) (hK : va_K D vwCl (kM dI dJ dZ) s) (hB : BBh h dI dJ num w) (hP : va_P D vwCl (w ++ wr) H) (hD : va_D A (w ++ wr)) (hS : va_S A H0 H locs) (hA : ∀ q, H0.size ≤ q → A q) (hR : rm_b_island.frames + 1 ≤ R.frames ∧ 8 + (3 + 11) + rm_b_island.locals ≤ R.locals) (hl : ls.size = nL) (hW : (rest.map fun v => v.category).sum ≤ 8) (hcs : cells ≤ R.cells ∧ slots ≤ R.slots) (hdg : decode cc pc = .ok (.invokevirtual 23, 3)) (kk : ∀ (w1 : va_W) (H1 : Heap) (locs1 : List Loc), BBh h dI dJ (num) w1 → va_P D vwCl (wr ++ w1) H1 → va_D A (wr ++ w1) → va_S A H0 H1 locs1 → W p l e R s m args below meth c H1 locs1 cells slots Q (F0 m (pc + 3) ls (.int (rsI num x y) :: rest))) : W p l e R s m args below meth c H locs cells slots Q (F0 m pc ls (.int y :: .int x :: .ref h :: rest)) := by
  obtain ⟨a, vIs, vLi, vGc, vSo, vSc, vLe, fNu, fCo, fIx, fNe, fDi, fBe, fCr, fCw, fDo, fCh, fNx, rfl, hB⟩ := hB
  exact kr_V hC (t_b_island l D h a dI dJ vIs vLi vGc vSo vSc vLe fNu fCo fIx fNe fDi fBe fCr fCw fDo fCh fNx num x y hB) (cwV 2 hC.2.2.2.2 (lw_V q107 q108 q109 q24 q110) rfl rfl rfl (by decide +kernel) hR) rfl rfl rfl hl rfl hW hcs (va_Pl hP) (hK.sub [0, 1] rfl) hdg (kk _ H locs ⟨a, vIs, vLi, vGc, vSo, vSc, vLe, fNu, fCo, fIx, fNe, fDi, fBe, fCr, fCw, fDo, fCh, fNx, rfl, hB⟩ (va_Psw hP) (va_Dsw hD) hS)
theorem kL_b_gaps {p : Program} {l : Launch} {e : Env} {R : Room} {s : State} {m : MethodId} {args : Array Value} {below : List Frame} {meth : Method} {c : Code} {H : Heap} {locs : List Loc} {cells slots : Nat} {Q : State → Prop} {cc : ByteArray} {pc nL : Nat} {ls : Array Slot} {rest : List Value} {D : va_G} {A : Nat → Prop} {H0 : Heap} {h : Nat} {dI dJ dZ : ClassId} {num : Nat → Nat} {w wr : va_W}  (hC : CallFix p m c cc nL s args lw_all R_law) (hK : va_K D vwCl (kM dI dJ dZ) s) (hB : BBh h dI dJ num w) (hP : va_P D vwCl (w ++ wr) H) (hD : va_D A (w ++ wr)) (hS : va_S A H0 H locs) (hA : ∀ q, H0.size ≤ q → A q) (hR : rm_b_gaps.frames + 1 ≤ R.frames ∧ 8 + (1 + 11) + rm_b_gaps.locals ≤ R.locals) (hl : ls.size = nL) (hW : (rest.map fun v => v.category).sum ≤ 8) (hcs : cells ≤ R.cells ∧ slots ≤ R.slots) (hdg : decode cc pc = .ok (.invokevirtual 27, 3)) (kk : ∀ (w1 : va_W) (H1 : Heap) (locs1 : List Loc), BBh h dI dJ (num) w1 → va_P D vwCl (wr ++ w1) H1 → va_D A (wr ++ w1) → va_S A H0 H1 locs1 → W p l e R s m args below meth c H1 locs1 cells slots Q (F0 m (pc + 3) ls (.int (nI (gL num).length) :: rest))) : W p l e R s m args below meth c H locs cells slots Q (F0 m pc ls (.ref h :: rest)) := by
  obtain ⟨a, vIs, vLi, vGc, vSo, vSc, vLe, fNu, fCo, fIx, fNe, fDi, fBe, fCr, fCw, fDo, fCh, fNx, rfl, hB⟩ := hB
  exact kr_V hC (t_b_gaps l D h a dI dJ vIs vLi vGc vSo vSc vLe fNu fCo fIx fNe fDi fBe fCr fCw fDo fCh fNx num  hB) (cwV 0 hC.2.2.2.2 (lw_V q111 q112 q113 q24 q114) rfl rfl rfl (by decide +kernel) hR) rfl rfl rfl hl rfl hW hcs (va_Pl hP) (hK.sub [0, 1] rfl) hdg (kk _ H locs ⟨a, vIs, vLi, vGc, vSo, vSc, vLe, fNu, fCo, fIx, fNe, fDi, fBe, fCr, fCw, fDo, fCh, fNx, rfl, hB⟩ (va_Psw hP) (va_Dsw hD) hS)
theorem kL_b_end {p : Program} {l : Launch} {e : Env} {R : Room} {s : State} {m : MethodId} {args : Array Value} {below : List Frame} {meth : Method} {c : Code} {H : Heap} {locs : List Loc} {cells slots : Nat} {Q : State → Prop} {cc : ByteArray} {pc nL : Nat} {ls : Array Slot} {rest : List Value} {D : va_G} {A : Nat → Prop} {H0 : Heap} {h : Nat} {dI dJ dZ : ClassId} {num : Nat → Nat} {w wr : va_W} {x : Int32} {fb : Bool} (hC : CallFix p m c cc nL s args lw_all R_law) (hK : va_K D vwCl (kM dI dJ dZ) s) (hB : BBh h dI dJ num w) (hP : va_P D vwCl (w ++ wr) H) (hD : va_D A (w ++ wr)) (hS : va_S A H0 H locs) (hA : ∀ q, H0.size ≤ q → A q) (hR : rm_b_end.frames + 1 ≤ R.frames ∧ 8 + (3 + 11) + rm_b_end.locals ≤ R.locals) (hl : ls.size = nL) (hW : (rest.map fun v => v.category).sum ≤ 8) (hcs : cells ≤ R.cells ∧ slots ≤ R.slots) (hdg : decode cc pc = .ok (.invokevirtual 32, 3)) (kk : ∀ (w1 : va_W) (H1 : Heap) (locs1 : List Loc), BBh h dI dJ (num) w1 → va_P D vwCl (wr ++ w1) H1 → va_D A (wr ++ w1) → va_S A H0 H1 locs1 → W p l e R s m args below meth c H1 locs1 cells slots Q (F0 m (pc + 3) ls (.int (rsE num x fb) :: rest))) : W p l e R s m args below meth c H locs cells slots Q (F0 m pc ls (.int (bo fb) :: .int x :: .ref h :: rest)) := by
  obtain ⟨a, vIs, vLi, vGc, vSo, vSc, vLe, fNu, fCo, fIx, fNe, fDi, fBe, fCr, fCw, fDo, fCh, fNx, rfl, hB⟩ := hB
  exact kr_V hC (t_b_end l D h a dI dJ vIs vLi vGc vSo vSc vLe fNu fCo fIx fNe fDi fBe fCr fCw fDo fCh fNx num x fb hB) (cwV 2 hC.2.2.2.2 (lw_V q115 q116 q117 q24 q118) rfl rfl rfl (by decide +kernel) hR) rfl rfl rfl hl rfl hW hcs (va_Pl hP) (hK.sub [0, 1] rfl) hdg (kk _ H locs ⟨a, vIs, vLi, vGc, vSo, vSc, vLe, fNu, fCo, fIx, fNe, fDi, fBe, fCr, fCw, fDo, fCh, fNx, rfl, hB⟩ (va_Psw hP) (va_Dsw hD) hS)
theorem kL_b_solutions {p : Program} {l : Launch} {e : Env} {R : Room} {s : State} {m : MethodId} {args : Array Value} {below : List Frame} {meth : Method} {c : Code} {H : Heap} {locs : List Loc} {cells slots : Nat} {Q : State → Prop} {cc : ByteArray} {pc nL : Nat} {ls : Array Slot} {rest : List Value} {D : va_G} {A : Nat → Prop} {H0 : Heap} {h : Nat} {dI dJ dZ : ClassId} {num : Nat → Nat} {w wr : va_W}  (hC : CallFix p m c cc nL s args lw_all R_law) (hK : va_K D vwCl (kM dI dJ dZ) s) (hB : BBh h dI dJ num w) (hP : va_P D vwCl (w ++ wr) H) (hD : va_D A (w ++ wr)) (hS : va_S A H0 H locs) (hA : ∀ q, H0.size ≤ q → A q) (hR : rm_b_solutions.frames + 1 ≤ R.frames ∧ 8 + (1 + 11) + rm_b_solutions.locals ≤ R.locals) (hl : ls.size = nL) (hW : (rest.map fun v => v.category).sum ≤ 8) (hcs : cells ≤ R.cells ∧ slots ≤ R.slots) (hdg : decode cc pc = .ok (.invokevirtual 37, 3)) (kk : ∀ (w1 : va_W) (H1 : Heap) (locs1 : List Loc), BBh h dI dJ (num) w1 → va_P D vwCl (wr ++ w1) H1 → va_D A (wr ++ w1) → va_S A H0 H1 locs1 → W p l e R s m args below meth c H1 locs1 cells slots Q (F0 m (pc + 3) ls (.int (rsS num) :: rest))) : W p l e R s m args below meth c H locs cells slots Q (F0 m pc ls (.ref h :: rest)) := by
  obtain ⟨a, vIs, vLi, vGc, vSo, vSc, vLe, fNu, fCo, fIx, fNe, fDi, fBe, fCr, fCw, fDo, fCh, fNx, rfl, hB⟩ := hB
  refine kj_i hC (t_b_solutions l D h a dI dJ vIs vLi vGc vSo vSc vLe fNu fCo fIx fNe fDi fBe fCr fCw fDo fCh fNx num  hB (fun q => sr_ok hB.2.1 q) H.size) (cwV 0 hC.2.2.2.2 (lw_V q119 q120 q121 q24 q122) rfl rfl rfl (by decide +kernel) hR) rfl rfl rfl hl rfl hW hcs hP (hK.sub [0, 1] rfl) hD hS hA hdg (fun r u H1 locs1 a1 a2 a3 a4 => ?_)
  obtain ⟨a1, rfl⟩ := a1
  exact kk _ H1 locs1 ⟨a, u.1, u.2.1, u.2.2.1, u.2.2.2.1, u.2.2.2.2.1, u.2.2.2.2.2.1, u.2.2.2.2.2.2.1, u.2.2.2.2.2.2.2.1, u.2.2.2.2.2.2.2.2.1, u.2.2.2.2.2.2.2.2.2.1, u.2.2.2.2.2.2.2.2.2.2.1, u.2.2.2.2.2.2.2.2.2.2.2.1, u.2.2.2.2.2.2.2.2.2.2.2.2.1, u.2.2.2.2.2.2.2.2.2.2.2.2.2.1, u.2.2.2.2.2.2.2.2.2.2.2.2.2.2.1, u.2.2.2.2.2.2.2.2.2.2.2.2.2.2.2.1, u.2.2.2.2.2.2.2.2.2.2.2.2.2.2.2.2, rfl, a1⟩ a2 a3 a4
theorem kL_b_least {p : Program} {l : Launch} {e : Env} {R : Room} {s : State} {m : MethodId} {args : Array Value} {below : List Frame} {meth : Method} {c : Code} {H : Heap} {locs : List Loc} {cells slots : Nat} {Q : State → Prop} {cc : ByteArray} {pc nL : Nat} {ls : Array Slot} {rest : List Value} {D : va_G} {A : Nat → Prop} {H0 : Heap} {h : Nat} {dI dJ dZ : ClassId} {num : Nat → Nat} {w wr : va_W} {x : Int32} (hC : CallFix p m c cc nL s args lw_all R_law) (hK : va_K D vwCl (kM dI dJ dZ) s) (hB : BBh h dI dJ num w) (hP : va_P D vwCl (w ++ wr) H) (hD : va_D A (w ++ wr)) (hS : va_S A H0 H locs) (hA : ∀ q, H0.size ≤ q → A q) (hR : rm_b_least.frames + 1 ≤ R.frames ∧ 8 + (3 + 11) + rm_b_least.locals ≤ R.locals) (hl : ls.size = nL) (hW : (rest.map fun v => v.category).sum ≤ 8) (hcs : cells ≤ R.cells ∧ slots ≤ R.slots) (hdg : decode cc pc = .ok (.invokevirtual 41, 3)) (kk : ∀ (w1 : va_W) (H1 : Heap) (locs1 : List Loc), BBh h dI dJ (num) w1 → va_P D vwCl (wr ++ w1) H1 → va_D A (wr ++ w1) → va_S A H0 H1 locs1 → W p l e R s m args below meth c H1 locs1 cells slots Q (F0 m (pc + 3) ls (.int (rsL num x) :: rest))) : W p l e R s m args below meth c H locs cells slots Q (F0 m pc ls (.int x :: .ref h :: rest)) := by
  obtain ⟨a, vIs, vLi, vGc, vSo, vSc, vLe, fNu, fCo, fIx, fNe, fDi, fBe, fCr, fCw, fDo, fCh, fNx, rfl, hB⟩ := hB
  refine kj_i hC (t_b_least l D h a dI dJ vIs vLi vGc vSo vSc vLe fNu fCo fIx fNe fDi fBe fCr fCw fDo fCh fNx num x hB (fun q => sr_ok hB.2.1 q) H.size) (cwV 1 hC.2.2.2.2 (lw_V q183 q184 q185 q24 q186) rfl rfl rfl (by decide +kernel) hR) rfl rfl rfl hl rfl hW hcs hP (hK.sub [0, 1] rfl) hD hS hA hdg (fun r u H1 locs1 a1 a2 a3 a4 => ?_)
  obtain ⟨a1, rfl⟩ := a1
  exact kk _ H1 locs1 ⟨a, u.1, u.2.1, u.2.2.1, u.2.2.2.1, u.2.2.2.2.1, u.2.2.2.2.2.1, u.2.2.2.2.2.2.1, u.2.2.2.2.2.2.2.1, u.2.2.2.2.2.2.2.2.1, u.2.2.2.2.2.2.2.2.2.1, u.2.2.2.2.2.2.2.2.2.2.1, u.2.2.2.2.2.2.2.2.2.2.2.1, u.2.2.2.2.2.2.2.2.2.2.2.2.1, u.2.2.2.2.2.2.2.2.2.2.2.2.2.1, u.2.2.2.2.2.2.2.2.2.2.2.2.2.2.1, u.2.2.2.2.2.2.2.2.2.2.2.2.2.2.2.1, u.2.2.2.2.2.2.2.2.2.2.2.2.2.2.2.2, rfl, a1⟩ a2 a3 a4
theorem kL_b_always {p : Program} {l : Launch} {e : Env} {R : Room} {s : State} {m : MethodId} {args : Array Value} {below : List Frame} {meth : Method} {c : Code} {H : Heap} {locs : List Loc} {cells slots : Nat} {Q : State → Prop} {cc : ByteArray} {pc nL : Nat} {ls : Array Slot} {rest : List Value} {D : va_G} {A : Nat → Prop} {H0 : Heap} {h : Nat} {dI dJ dZ : ClassId} {num : Nat → Nat} {w wr : va_W} {x : Int32} (hC : CallFix p m c cc nL s args lw_all R_law) (hK : va_K D vwCl (kM dI dJ dZ) s) (hB : BBh h dI dJ num w) (hP : va_P D vwCl (w ++ wr) H) (hD : va_D A (w ++ wr)) (hS : va_S A H0 H locs) (hA : ∀ q, H0.size ≤ q → A q) (hR : rm_b_always.frames + 1 ≤ R.frames ∧ 8 + (3 + 11) + rm_b_always.locals ≤ R.locals) (hl : ls.size = nL) (hW : (rest.map fun v => v.category).sum ≤ 8) (hcs : cells ≤ R.cells ∧ slots ≤ R.slots) (hdg : decode cc pc = .ok (.invokevirtual 46, 3)) (kk : ∀ (w1 : va_W) (H1 : Heap) (locs1 : List Loc), BBh h dI dJ (num) w1 → va_P D vwCl (wr ++ w1) H1 → va_D A (wr ++ w1) → va_S A H0 H1 locs1 → W p l e R s m args below meth c H1 locs1 cells slots Q (F0 m (pc + 3) ls (.int (rsA num x) :: rest))) : W p l e R s m args below meth c H locs cells slots Q (F0 m pc ls (.int x :: .ref h :: rest)) := by
  obtain ⟨a, vIs, vLi, vGc, vSo, vSc, vLe, fNu, fCo, fIx, fNe, fDi, fBe, fCr, fCw, fDo, fCh, fNx, rfl, hB⟩ := hB
  refine kj_i hC (t_b_always l D h a dI dJ vIs vLi vGc vSo vSc vLe fNu fCo fIx fNe fDi fBe fCr fCw fDo fCh fNx num x hB (fun q => sr_ok hB.2.1 q) H.size) (cwV 1 hC.2.2.2.2 (lw_V q187 q188 q189 q24 q190) rfl rfl rfl (by decide +kernel) hR) rfl rfl rfl hl rfl hW hcs hP (hK.sub [0, 1] rfl) hD hS hA hdg (fun r u H1 locs1 a1 a2 a3 a4 => ?_)
  obtain ⟨a1, rfl⟩ := a1
  exact kk _ H1 locs1 ⟨a, u.1, u.2.1, u.2.2.1, u.2.2.2.1, u.2.2.2.2.1, u.2.2.2.2.2.1, u.2.2.2.2.2.2.1, u.2.2.2.2.2.2.2.1, u.2.2.2.2.2.2.2.2.1, u.2.2.2.2.2.2.2.2.2.1, u.2.2.2.2.2.2.2.2.2.2.1, u.2.2.2.2.2.2.2.2.2.2.2.1, u.2.2.2.2.2.2.2.2.2.2.2.2.1, u.2.2.2.2.2.2.2.2.2.2.2.2.2.1, u.2.2.2.2.2.2.2.2.2.2.2.2.2.2.1, u.2.2.2.2.2.2.2.2.2.2.2.2.2.2.2.1, u.2.2.2.2.2.2.2.2.2.2.2.2.2.2.2.2, rfl, a1⟩ a2 a3 a4
theorem kL_b_with {p : Program} {l : Launch} {e : Env} {R : Room} {s : State} {m : MethodId} {args : Array Value} {below : List Frame} {meth : Method} {c : Code} {H : Heap} {locs : List Loc} {cells slots : Nat} {Q : State → Prop} {cc : ByteArray} {pc nL : Nat} {ls : Array Slot} {rest : List Value} {D : va_G} {A : Nat → Prop} {H0 : Heap} {h : Nat} {dI dJ dZ : ClassId} {num : Nat → Nat} {w wr : va_W} {x : Int32} {y : Int32} (hC : CallFix p m c cc nL s args lw_all R_law) (hK : va_K D vwCl (kM dI dJ dZ) s) (hB : BBh h dI dJ num w) (hP : va_P D vwCl (w ++ wr) H) (hD : va_D A (w ++ wr)) (hS : va_S A H0 H locs) (hA : ∀ q, H0.size ≤ q → A q) (hR : rm_b_with.frames + 1 ≤ R.frames ∧ 8 + (3 + 11) + rm_b_with.locals ≤ R.locals) (hl : ls.size = nL) (hW : (rest.map fun v => v.category).sum ≤ 8) (hcs : cells ≤ R.cells ∧ slots ≤ R.slots) (hdg : decode cc pc = .ok (.invokevirtual 50, 3)) (kk : ∀ (w1 : va_W) (H1 : Heap) (locs1 : List Loc), BBh h dI dJ (num) w1 → va_P D vwCl (wr ++ w1) H1 → va_D A (wr ++ w1) → va_S A H0 H1 locs1 → W p l e R s m args below meth c H1 locs1 cells slots Q (F0 m (pc + 3) ls (.int (rsW num x y) :: rest))) : W p l e R s m args below meth c H locs cells slots Q (F0 m pc ls (.int y :: .int x :: .ref h :: rest)) := by
  obtain ⟨a, vIs, vLi, vGc, vSo, vSc, vLe, fNu, fCo, fIx, fNe, fDi, fBe, fCr, fCw, fDo, fCh, fNx, rfl, hB⟩ := hB
  refine kj_i hC (t_b_with l D h a dI dJ vIs vLi vGc vSo vSc vLe fNu fCo fIx fNe fDi fBe fCr fCw fDo fCh fNx num x y hB (fun q => sr_ok hB.2.1 q) H.size) (cwV 2 hC.2.2.2.2 (lw_V q191 q192 q193 q24 q194) rfl rfl rfl (by decide +kernel) hR) rfl rfl rfl hl rfl hW hcs hP (hK.sub [0, 1] rfl) hD hS hA hdg (fun r u H1 locs1 a1 a2 a3 a4 => ?_)
  obtain ⟨a1, rfl⟩ := a1
  exact kk _ H1 locs1 ⟨a, u.1, u.2.1, u.2.2.1, u.2.2.2.1, u.2.2.2.2.1, u.2.2.2.2.2.1, u.2.2.2.2.2.2.1, u.2.2.2.2.2.2.2.1, u.2.2.2.2.2.2.2.2.1, u.2.2.2.2.2.2.2.2.2.1, u.2.2.2.2.2.2.2.2.2.2.1, u.2.2.2.2.2.2.2.2.2.2.2.1, u.2.2.2.2.2.2.2.2.2.2.2.2.1, u.2.2.2.2.2.2.2.2.2.2.2.2.2.1, u.2.2.2.2.2.2.2.2.2.2.2.2.2.2.1, u.2.2.2.2.2.2.2.2.2.2.2.2.2.2.2.1, u.2.2.2.2.2.2.2.2.2.2.2.2.2.2.2.2, rfl, a1⟩ a2 a3 a4
theorem kL_m_place {p : Program} {l : Launch} {e : Env} {R : Room} {s : State} {m : MethodId} {args : Array Value} {below : List Frame} {meth : Method} {c : Code} {H : Heap} {locs : List Loc} {cells slots : Nat} {Q : State → Prop} {cc : ByteArray} {pc nL : Nat} {ls : Array Slot} {rest : List Value} {D : va_G} {A : Nat → Prop} {H0 : Heap} {h : Nat} {dI dJ dZ : ClassId} {num : Nat → Nat} {w wr : va_W} {x : Int32} {y : Int32} {z : Int32} (hC : CallFix p m c cc nL s args lw_all R_law) (hK : va_K D vwCl (kM dI dJ dZ) s) (hB : MDh h dI dJ dZ num w) (hP : va_P D vwCl (w ++ wr) H) (hD : va_D A (w ++ wr)) (hS : va_S A H0 H locs) (hA : ∀ q, H0.size ≤ q → A q) (hR : rm_m_place.frames + 1 ≤ R.frames ∧ 8 + (4 + 11) + rm_m_place.locals ≤ R.locals) (hl : ls.size = nL) (hW : (rest.map fun v => v.category).sum ≤ 8) (hcs : cells ≤ R.cells ∧ slots ≤ R.slots) (hdg : decode cc pc = .ok (.invokevirtual 17, 3)) (kk : ∀ (w1 : va_W) (H1 : Heap) (locs1 : List Loc), MDh h dI dJ dZ (nuP num x y z) w1 → va_P D vwCl (wr ++ w1) H1 → va_D A (wr ++ w1) → va_S A H0 H1 locs1 → W p l e R s m args below meth c H1 locs1 cells slots Q (F0 m (pc + 3) ls (.int (rsP num x y z) :: rest))) : W p l e R s m args below meth c H locs cells slots Q (F0 m pc ls (.int z :: .int y :: .int x :: .ref h :: rest)) := by
  obtain ⟨a, vGa, fNu, fNe, fFa, fBe, fBr, fRe, rfl, hB⟩ := hB
  refine kj_i hC (t_m_place l D h a dI dJ dZ vGa fNu fNe fFa fBe fBr fRe num x y z hB H.size) (cwV 3 hC.2.2.2.2 (lw_V q224 q225 q226 q25 q227) rfl rfl rfl (by decide +kernel) hR) rfl rfl rfl hl rfl hW hcs hP hK hD hS hA hdg (fun r u H1 locs1 a1 a2 a3 a4 => ?_)
  obtain ⟨a1, rfl⟩ := a1
  exact kk _ H1 locs1 ⟨a, u.1, u.2.1, u.2.2.1, u.2.2.2.1, u.2.2.2.2.1, u.2.2.2.2.2.1, u.2.2.2.2.2.2, rfl, a1⟩ a2 a3 a4
theorem kL_m_remove {p : Program} {l : Launch} {e : Env} {R : Room} {s : State} {m : MethodId} {args : Array Value} {below : List Frame} {meth : Method} {c : Code} {H : Heap} {locs : List Loc} {cells slots : Nat} {Q : State → Prop} {cc : ByteArray} {pc nL : Nat} {ls : Array Slot} {rest : List Value} {D : va_G} {A : Nat → Prop} {H0 : Heap} {h : Nat} {dI dJ dZ : ClassId} {num : Nat → Nat} {w wr : va_W} {x : Int32} {y : Int32} (hC : CallFix p m c cc nL s args lw_all R_law) (hK : va_K D vwCl (kM dI dJ dZ) s) (hB : MDh h dI dJ dZ num w) (hP : va_P D vwCl (w ++ wr) H) (hD : va_D A (w ++ wr)) (hS : va_S A H0 H locs) (hA : ∀ q, H0.size ≤ q → A q) (hR : rm_m_remove.frames + 1 ≤ R.frames ∧ 8 + (3 + 11) + rm_m_remove.locals ≤ R.locals) (hl : ls.size = nL) (hW : (rest.map fun v => v.category).sum ≤ 8) (hcs : cells ≤ R.cells ∧ slots ≤ R.slots) (hdg : decode cc pc = .ok (.invokevirtual 22, 3)) (kk : ∀ (w1 : va_W) (H1 : Heap) (locs1 : List Loc), MDh h dI dJ dZ (nuR num x y) w1 → va_P D vwCl (wr ++ w1) H1 → va_D A (wr ++ w1) → va_S A H0 H1 locs1 → W p l e R s m args below meth c H1 locs1 cells slots Q (F0 m (pc + 3) ls (.int (rsR num x y) :: rest))) : W p l e R s m args below meth c H locs cells slots Q (F0 m pc ls (.int y :: .int x :: .ref h :: rest)) := by
  obtain ⟨a, vGa, fNu, fNe, fFa, fBe, fBr, fRe, rfl, hB⟩ := hB
  refine kj_i hC (t_m_remove l D h a dI dJ dZ vGa fNu fNe fFa fBe fBr fRe num x y hB H.size) (cwV 2 hC.2.2.2.2 (lw_V q235 q236 q237 q25 q238) rfl rfl rfl (by decide +kernel) hR) rfl rfl rfl hl rfl hW hcs hP hK hD hS hA hdg (fun r u H1 locs1 a1 a2 a3 a4 => ?_)
  obtain ⟨a1, rfl⟩ := a1
  exact kk _ H1 locs1 ⟨a, u.1, u.2.1, u.2.2.1, u.2.2.2.1, u.2.2.2.2.1, u.2.2.2.2.2.1, u.2.2.2.2.2.2, rfl, a1⟩ a2 a3 a4
theorem kL_m_island {p : Program} {l : Launch} {e : Env} {R : Room} {s : State} {m : MethodId} {args : Array Value} {below : List Frame} {meth : Method} {c : Code} {H : Heap} {locs : List Loc} {cells slots : Nat} {Q : State → Prop} {cc : ByteArray} {pc nL : Nat} {ls : Array Slot} {rest : List Value} {D : va_G} {A : Nat → Prop} {H0 : Heap} {h : Nat} {dI dJ dZ : ClassId} {num : Nat → Nat} {w wr : va_W} {x : Int32} {y : Int32} (hC : CallFix p m c cc nL s args lw_all R_law) (hK : va_K D vwCl (kM dI dJ dZ) s) (hB : MDh h dI dJ dZ num w) (hP : va_P D vwCl (w ++ wr) H) (hD : va_D A (w ++ wr)) (hS : va_S A H0 H locs) (hA : ∀ q, H0.size ≤ q → A q) (hR : rm_m_island.frames + 1 ≤ R.frames ∧ 8 + (3 + 11) + rm_m_island.locals ≤ R.locals) (hl : ls.size = nL) (hW : (rest.map fun v => v.category).sum ≤ 8) (hcs : cells ≤ R.cells ∧ slots ≤ R.slots) (hdg : decode cc pc = .ok (.invokevirtual 26, 3)) (kk : ∀ (w1 : va_W) (H1 : Heap) (locs1 : List Loc), MDh h dI dJ dZ (num) w1 → va_P D vwCl (wr ++ w1) H1 → va_D A (wr ++ w1) → va_S A H0 H1 locs1 → W p l e R s m args below meth c H1 locs1 cells slots Q (F0 m (pc + 3) ls (.int (rsI num x y) :: rest))) : W p l e R s m args below meth c H locs cells slots Q (F0 m pc ls (.int y :: .int x :: .ref h :: rest)) := by
  obtain ⟨a, vGa, fNu, fNe, fFa, fBe, fBr, fRe, rfl, hB⟩ := hB
  exact kr_V hC (t_m_island l D h a dI dJ dZ vGa fNu fNe fFa fBe fBr fRe num x y hB) (cwV 2 hC.2.2.2.2 (lw_V q239 q240 q241 q25 q242) rfl rfl rfl (by decide +kernel) hR) rfl rfl rfl hl rfl hW hcs (va_Pl hP) hK hdg (kk _ H locs ⟨a, vGa, fNu, fNe, fFa, fBe, fBr, fRe, rfl, hB⟩ (va_Psw hP) (va_Dsw hD) hS)
theorem kL_m_gaps {p : Program} {l : Launch} {e : Env} {R : Room} {s : State} {m : MethodId} {args : Array Value} {below : List Frame} {meth : Method} {c : Code} {H : Heap} {locs : List Loc} {cells slots : Nat} {Q : State → Prop} {cc : ByteArray} {pc nL : Nat} {ls : Array Slot} {rest : List Value} {D : va_G} {A : Nat → Prop} {H0 : Heap} {h : Nat} {dI dJ dZ : ClassId} {num : Nat → Nat} {w wr : va_W}  (hC : CallFix p m c cc nL s args lw_all R_law) (hK : va_K D vwCl (kM dI dJ dZ) s) (hB : MDh h dI dJ dZ num w) (hP : va_P D vwCl (w ++ wr) H) (hD : va_D A (w ++ wr)) (hS : va_S A H0 H locs) (hA : ∀ q, H0.size ≤ q → A q) (hR : rm_m_gaps.frames + 1 ≤ R.frames ∧ 8 + (1 + 11) + rm_m_gaps.locals ≤ R.locals) (hl : ls.size = nL) (hW : (rest.map fun v => v.category).sum ≤ 8) (hcs : cells ≤ R.cells ∧ slots ≤ R.slots) (hdg : decode cc pc = .ok (.invokevirtual 31, 3)) (kk : ∀ (w1 : va_W) (H1 : Heap) (locs1 : List Loc), MDh h dI dJ dZ (num) w1 → va_P D vwCl (wr ++ w1) H1 → va_D A (wr ++ w1) → va_S A H0 H1 locs1 → W p l e R s m args below meth c H1 locs1 cells slots Q (F0 m (pc + 3) ls (.int (nI (gL num).length) :: rest))) : W p l e R s m args below meth c H locs cells slots Q (F0 m pc ls (.ref h :: rest)) := by
  obtain ⟨a, vGa, fNu, fNe, fFa, fBe, fBr, fRe, rfl, hB⟩ := hB
  refine kj_i hC (t_m_gaps l D h a dI dJ dZ vGa fNu fNe fFa fBe fBr fRe num  hB H.size) (cwV 0 hC.2.2.2.2 (lw_V q243 q244 q245 q25 q246) rfl rfl rfl (by decide +kernel) hR) rfl rfl rfl hl rfl hW hcs hP hK hD hS hA hdg (fun r u H1 locs1 a1 a2 a3 a4 => ?_)
  obtain ⟨a1, rfl⟩ := a1
  exact kk _ H1 locs1 ⟨a, u.1, u.2.1, u.2.2.1, u.2.2.2.1, u.2.2.2.2.1, u.2.2.2.2.2.1, u.2.2.2.2.2.2, rfl, a1⟩ a2 a3 a4
theorem kL_m_end {p : Program} {l : Launch} {e : Env} {R : Room} {s : State} {m : MethodId} {args : Array Value} {below : List Frame} {meth : Method} {c : Code} {H : Heap} {locs : List Loc} {cells slots : Nat} {Q : State → Prop} {cc : ByteArray} {pc nL : Nat} {ls : Array Slot} {rest : List Value} {D : va_G} {A : Nat → Prop} {H0 : Heap} {h : Nat} {dI dJ dZ : ClassId} {num : Nat → Nat} {w wr : va_W} {x : Int32} {fb : Bool} (hC : CallFix p m c cc nL s args lw_all R_law) (hK : va_K D vwCl (kM dI dJ dZ) s) (hB : MDh h dI dJ dZ num w) (hP : va_P D vwCl (w ++ wr) H) (hD : va_D A (w ++ wr)) (hS : va_S A H0 H locs) (hA : ∀ q, H0.size ≤ q → A q) (hR : rm_m_end.frames + 1 ≤ R.frames ∧ 8 + (3 + 11) + rm_m_end.locals ≤ R.locals) (hl : ls.size = nL) (hW : (rest.map fun v => v.category).sum ≤ 8) (hcs : cells ≤ R.cells ∧ slots ≤ R.slots) (hdg : decode cc pc = .ok (.invokevirtual 36, 3)) (kk : ∀ (w1 : va_W) (H1 : Heap) (locs1 : List Loc), MDh h dI dJ dZ (num) w1 → va_P D vwCl (wr ++ w1) H1 → va_D A (wr ++ w1) → va_S A H0 H1 locs1 → W p l e R s m args below meth c H1 locs1 cells slots Q (F0 m (pc + 3) ls (.int (rsE num x fb) :: rest))) : W p l e R s m args below meth c H locs cells slots Q (F0 m pc ls (.int (bo fb) :: .int x :: .ref h :: rest)) := by
  obtain ⟨a, vGa, fNu, fNe, fFa, fBe, fBr, fRe, rfl, hB⟩ := hB
  refine kj_i hC (t_m_end l D h a dI dJ dZ vGa fNu fNe fFa fBe fBr fRe num x fb hB H.size) (cwV 2 hC.2.2.2.2 (lw_V q255 q256 q257 q25 q258) rfl rfl rfl (by decide +kernel) hR) rfl rfl rfl hl rfl hW hcs hP hK hD hS hA hdg (fun r u H1 locs1 a1 a2 a3 a4 => ?_)
  obtain ⟨a1, rfl⟩ := a1
  exact kk _ H1 locs1 ⟨a, u.1, u.2.1, u.2.2.1, u.2.2.2.1, u.2.2.2.2.1, u.2.2.2.2.2.1, u.2.2.2.2.2.2, rfl, a1⟩ a2 a3 a4
theorem kL_m_solutions {p : Program} {l : Launch} {e : Env} {R : Room} {s : State} {m : MethodId} {args : Array Value} {below : List Frame} {meth : Method} {c : Code} {H : Heap} {locs : List Loc} {cells slots : Nat} {Q : State → Prop} {cc : ByteArray} {pc nL : Nat} {ls : Array Slot} {rest : List Value} {D : va_G} {A : Nat → Prop} {H0 : Heap} {h : Nat} {dI dJ dZ : ClassId} {num : Nat → Nat} {w wr : va_W}  (hC : CallFix p m c cc nL s args lw_all R_law) (hK : va_K D vwCl (kM dI dJ dZ) s) (hB : MDh h dI dJ dZ num w) (hP : va_P D vwCl (w ++ wr) H) (hD : va_D A (w ++ wr)) (hS : va_S A H0 H locs) (hA : ∀ q, H0.size ≤ q → A q) (hR : rm_m_solutions.frames + 1 ≤ R.frames ∧ 8 + (1 + 11) + rm_m_solutions.locals ≤ R.locals) (hl : ls.size = nL) (hW : (rest.map fun v => v.category).sum ≤ 8) (hcs : cells ≤ R.cells ∧ slots ≤ R.slots) (hdg : decode cc pc = .ok (.invokevirtual 40, 3)) (kk : ∀ (w1 : va_W) (H1 : Heap) (locs1 : List Loc), MDh h dI dJ dZ (num) w1 → va_P D vwCl (wr ++ w1) H1 → va_D A (wr ++ w1) → va_S A H0 H1 locs1 → W p l e R s m args below meth c H1 locs1 cells slots Q (F0 m (pc + 3) ls (.int (rsS num) :: rest))) : W p l e R s m args below meth c H locs cells slots Q (F0 m pc ls (.ref h :: rest)) := by
  obtain ⟨a, vGa, fNu, fNe, fFa, fBe, fBr, fRe, rfl, hB⟩ := hB
  refine kj_i hC (t_m_solutions l D h a dI dJ dZ vGa fNu fNe fFa fBe fBr fRe num  hB H.size) (cwV 0 hC.2.2.2.2 (lw_V q259 q260 q261 q25 q262) rfl rfl rfl (by decide +kernel) hR) rfl rfl rfl hl rfl hW hcs hP hK hD hS hA hdg (fun r u H1 locs1 a1 a2 a3 a4 => ?_)
  obtain ⟨a1, rfl⟩ := a1
  exact kk _ H1 locs1 ⟨a, u.1, u.2.1, u.2.2.1, u.2.2.2.1, u.2.2.2.2.1, u.2.2.2.2.2.1, u.2.2.2.2.2.2, rfl, a1⟩ a2 a3 a4
theorem kL_m_least {p : Program} {l : Launch} {e : Env} {R : Room} {s : State} {m : MethodId} {args : Array Value} {below : List Frame} {meth : Method} {c : Code} {H : Heap} {locs : List Loc} {cells slots : Nat} {Q : State → Prop} {cc : ByteArray} {pc nL : Nat} {ls : Array Slot} {rest : List Value} {D : va_G} {A : Nat → Prop} {H0 : Heap} {h : Nat} {dI dJ dZ : ClassId} {num : Nat → Nat} {w wr : va_W} {x : Int32} (hC : CallFix p m c cc nL s args lw_all R_law) (hK : va_K D vwCl (kM dI dJ dZ) s) (hB : MDh h dI dJ dZ num w) (hP : va_P D vwCl (w ++ wr) H) (hD : va_D A (w ++ wr)) (hS : va_S A H0 H locs) (hA : ∀ q, H0.size ≤ q → A q) (hR : rm_m_least.frames + 1 ≤ R.frames ∧ 8 + (4 + 11) + rm_m_least.locals ≤ R.locals) (hl : ls.size = nL) (hW : (rest.map fun v => v.category).sum ≤ 8) (hcs : cells ≤ R.cells ∧ slots ≤ R.slots) (hdg : decode cc pc = .ok (.invokevirtual 45, 3)) (kk : ∀ (w1 : va_W) (H1 : Heap) (locs1 : List Loc), MDh h dI dJ dZ (num) w1 → va_P D vwCl (wr ++ w1) H1 → va_D A (wr ++ w1) → va_S A H0 H1 locs1 → W p l e R s m args below meth c H1 locs1 cells slots Q (F0 m (pc + 3) ls (.int (rsL num x) :: rest))) : W p l e R s m args below meth c H locs cells slots Q (F0 m pc ls (.int x :: .ref h :: rest)) := by
  obtain ⟨a, vGa, fNu, fNe, fFa, fBe, fBr, fRe, rfl, hB⟩ := hB
  refine kj_i hC (t_m_least l D h a dI dJ dZ vGa fNu fNe fFa fBe fBr fRe num x hB H.size) (cwV 1 hC.2.2.2.2 (lw_V q291 q292 q293 q25 q294) rfl rfl rfl (by decide +kernel) hR) rfl rfl rfl hl rfl hW hcs hP hK hD hS hA hdg (fun r u H1 locs1 a1 a2 a3 a4 => ?_)
  obtain ⟨a1, rfl⟩ := a1
  exact kk _ H1 locs1 ⟨a, u.1, u.2.1, u.2.2.1, u.2.2.2.1, u.2.2.2.2.1, u.2.2.2.2.2.1, u.2.2.2.2.2.2, rfl, a1⟩ a2 a3 a4
theorem kL_m_always {p : Program} {l : Launch} {e : Env} {R : Room} {s : State} {m : MethodId} {args : Array Value} {below : List Frame} {meth : Method} {c : Code} {H : Heap} {locs : List Loc} {cells slots : Nat} {Q : State → Prop} {cc : ByteArray} {pc nL : Nat} {ls : Array Slot} {rest : List Value} {D : va_G} {A : Nat → Prop} {H0 : Heap} {h : Nat} {dI dJ dZ : ClassId} {num : Nat → Nat} {w wr : va_W} {x : Int32} (hC : CallFix p m c cc nL s args lw_all R_law) (hK : va_K D vwCl (kM dI dJ dZ) s) (hB : MDh h dI dJ dZ num w) (hP : va_P D vwCl (w ++ wr) H) (hD : va_D A (w ++ wr)) (hS : va_S A H0 H locs) (hA : ∀ q, H0.size ≤ q → A q) (hR : rm_m_always.frames + 1 ≤ R.frames ∧ 8 + (5 + 11) + rm_m_always.locals ≤ R.locals) (hl : ls.size = nL) (hW : (rest.map fun v => v.category).sum ≤ 8) (hcs : cells ≤ R.cells ∧ slots ≤ R.slots) (hdg : decode cc pc = .ok (.invokevirtual 49, 3)) (kk : ∀ (w1 : va_W) (H1 : Heap) (locs1 : List Loc), MDh h dI dJ dZ (num) w1 → va_P D vwCl (wr ++ w1) H1 → va_D A (wr ++ w1) → va_S A H0 H1 locs1 → W p l e R s m args below meth c H1 locs1 cells slots Q (F0 m (pc + 3) ls (.int (rsA num x) :: rest))) : W p l e R s m args below meth c H locs cells slots Q (F0 m pc ls (.int x :: .ref h :: rest)) := by
  obtain ⟨a, vGa, fNu, fNe, fFa, fBe, fBr, fRe, rfl, hB⟩ := hB
  refine kj_i hC (t_m_always l D h a dI dJ dZ vGa fNu fNe fFa fBe fBr fRe num x hB H.size) (cwV 1 hC.2.2.2.2 (lw_V q295 q296 q297 q25 q298) rfl rfl rfl (by decide +kernel) hR) rfl rfl rfl hl rfl hW hcs hP hK hD hS hA hdg (fun r u H1 locs1 a1 a2 a3 a4 => ?_)
  obtain ⟨a1, rfl⟩ := a1
  exact kk _ H1 locs1 ⟨a, u.1, u.2.1, u.2.2.1, u.2.2.2.1, u.2.2.2.2.1, u.2.2.2.2.2.1, u.2.2.2.2.2.2, rfl, a1⟩ a2 a3 a4
theorem kL_m_with {p : Program} {l : Launch} {e : Env} {R : Room} {s : State} {m : MethodId} {args : Array Value} {below : List Frame} {meth : Method} {c : Code} {H : Heap} {locs : List Loc} {cells slots : Nat} {Q : State → Prop} {cc : ByteArray} {pc nL : Nat} {ls : Array Slot} {rest : List Value} {D : va_G} {A : Nat → Prop} {H0 : Heap} {h : Nat} {dI dJ dZ : ClassId} {num : Nat → Nat} {w wr : va_W} {x : Int32} {y : Int32} (hC : CallFix p m c cc nL s args lw_all R_law) (hK : va_K D vwCl (kM dI dJ dZ) s) (hB : MDh h dI dJ dZ num w) (hP : va_P D vwCl (w ++ wr) H) (hD : va_D A (w ++ wr)) (hS : va_S A H0 H locs) (hA : ∀ q, H0.size ≤ q → A q) (hR : rm_m_with.frames + 1 ≤ R.frames ∧ 8 + (3 + 11) + rm_m_with.locals ≤ R.locals) (hl : ls.size = nL) (hW : (rest.map fun v => v.category).sum ≤ 8) (hcs : cells ≤ R.cells ∧ slots ≤ R.slots) (hdg : decode cc pc = .ok (.invokevirtual 53, 3)) (kk : ∀ (w1 : va_W) (H1 : Heap) (locs1 : List Loc), MDh h dI dJ dZ (num) w1 → va_P D vwCl (wr ++ w1) H1 → va_D A (wr ++ w1) → va_S A H0 H1 locs1 → W p l e R s m args below meth c H1 locs1 cells slots Q (F0 m (pc + 3) ls (.int (rsW num x y) :: rest))) : W p l e R s m args below meth c H locs cells slots Q (F0 m pc ls (.int y :: .int x :: .ref h :: rest)) := by
  obtain ⟨a, vGa, fNu, fNe, fFa, fBe, fBr, fRe, rfl, hB⟩ := hB
  refine kj_i hC (t_m_with l D h a dI dJ dZ vGa fNu fNe fFa fBe fBr fRe num x y hB H.size) (cwV 2 hC.2.2.2.2 (lw_V q299 q300 q301 q25 q302) rfl rfl rfl (by decide +kernel) hR) rfl rfl rfl hl rfl hW hcs hP hK hD hS hA hdg (fun r u H1 locs1 a1 a2 a3 a4 => ?_)
  obtain ⟨a1, rfl⟩ := a1
  exact kk _ H1 locs1 ⟨a, u.1, u.2.1, u.2.2.1, u.2.2.2.1, u.2.2.2.2.1, u.2.2.2.2.2.1, u.2.2.2.2.2.2, rfl, a1⟩ a2 a3 a4
end
section
/-! the law's loop -/
set_option maxHeartbeats 4000000 in
set_option maxRecDepth 100000 in
theorem law_loop {p : Program} {l : Launch} {e : Env} {s : State} {m : MethodId} {below : List Frame} {meth : Method} {c : Code} {b L : Nat} {xs : Nat → Int32} (hL : L ≤ 256) (C0 : lw_At p s m meth c b L xs) {D : va_G} {dI dJ dZ : ClassId} {hx0 hm0 : Nat} (hK : va_K D vwCl (kM dI dJ dZ) s) :
    ∀ (n k : Nat) (num : Nat → Nat) (wB wM : va_W) (H : Heap) (locs : List Loc) (ls : Array Slot), k ≤ L + 4 → L + 5 ≤ k + n → BBh hx0 dI dJ num wB → MDh hm0 dI dJ dZ num wM → va_P D vwCl (wB ++ wM) H → va_D (fun q : Nat => s.heap.size ≤ q) (wB ++ wM) → va_S (fun q : Nat => s.heap.size ≤ q) s.heap H locs → lv_has ls 4 [(0, .ref b), (1, .ref hx0), (2, .ref hm0), (3, .int (nI k))] → W p l e room_1 s m #[Value.ref b] below meth c H locs 600000 7290000 (lw_Z below #[Value.ref b] s) (F0 m 18 ls []) := by
  obtain ⟨hx, hb, hr, hml, hown, hts, hX, hbl, hlocks, hgv⟩ := id C0
  have hA : ∀ q : Nat, s.heap.size ≤ q → (fun q : Nat => s.heap.size ≤ q) q := fun _ h => h
  have hbA : ¬ (fun q : Nat => s.heap.size ≤ q) b := Nat.not_le.mpr hbl
  have hC : CallFix p m c code 4 s #[Value.ref b] lw_all R_law := ⟨hx, hb, hml, hown, fun w h => hts w (lw_all_tbl h)⟩
  have hcs : 600000 ≤ room_1.cells ∧ 7290000 ≤ room_1.slots := ⟨Nat.le_of_ble_eq_true rfl, Nat.le_of_ble_eq_true rfl⟩
  intro n
  induction n with
  | zero =>
    intro k num wB wM H locs ls h1 h2
    exact absurd h2 (by omega)
  | succ n ih =>
    intro k num wB wM H locs ls h1 h2 hB hM hP hD hS hl
    refine lv_iload_n hx hb dL_law_18 rfl (lv_at hl 3 rfl) ?_
    refine lv_aload_n hx hb dL_law_19 rfl (lv_at hl 0 rfl) ?_
    refine va_slen hx hb hX hbl hbA hS dL_law_20 ?_
    refine lv_iconst (v := nI 4) hx hb dL_law_21 (by decide) ?_
    refine lv_isub hx hb dL_law_22 ?_
    refine lv_icmp_gt (tgt := 353) hx hb dL_law_23 (by decide) (fun c1 => ?_) (fun c1 => ?_)
    · refine lv_iconst (v := 1) hx hb dL_law_353 (by decide) ?_
      exact va_forget (fun q hq => hS.2.2 q hq) (lw_ret hx hb hr hlocks dL_law_354)
    · have hk4 : k + 4 ≤ L := by
        have e1 : (nI L - nI 4).toInt = (L : Int) - (4 : Nat) := pk_sub_toInt (by omega) (by omega)
        have c2 : ¬ (nI L - nI 4) < nI k := c1
        rw [Int32.lt_iff_toInt_lt, e1, nI_toInt (by omega)] at c2
        omega
      have nx : ∀ (num : Nat → Nat) (wB wM : va_W) (H : Heap) (locs : List Loc), BBh hx0 dI dJ num wB → MDh hm0 dI dJ dZ num wM → va_P D vwCl (wB ++ wM) H → va_D (fun q : Nat => s.heap.size ≤ q) (wB ++ wM) → va_S (fun q : Nat => s.heap.size ≤ q) s.heap H locs → W p l e room_1 s m #[Value.ref b] below meth c H locs 600000 7290000 (lw_Z below #[Value.ref b] s) (F0 m 347 ls []) := by
        intro num wB wM H locs hB hM hP hD hS
        refine lv_iinc (v := nI (k + 4)) (lv' := [(3, .int (nI (k + 4))), (0, .ref b), (1, .ref hx0), (2, .ref hm0)]) hx hb dL_law_347 hl (k := 3) rfl (nI_add k 4) (by decide) rfl (fun ls hl => ?_)
        refine lv_goto (tgt := 18) hx hb dL_law_350 (by decide) ?_
        exact ih (k + 4) num wB wM H locs ls (by omega) (by omega) hB hM hP hD hS (lv_sub hl [1, 2, 3, 0] rfl)
      refine lv_aload_n hx hb dL_law_26 rfl (lv_at hl 0 rfl) ?_
      refine lv_iload_n hx hb dL_law_27 rfl (lv_at hl 3 rfl) ?_
      refine va_sld hx hb hX hbl hbA hS (vp_in_nI (show k < L by omega) (by omega)) dL_law_28 ?_
      refine lv_bipush (v := nI 15) hx hb dL_law_29 (by decide) ?_
      refine lv_iand hx hb dL_law_31 ?_
      refine lv_topi (fun v ev => ?_)
      have i1 : vp_in (nI (k + 1)) L := vp_in_nI (by omega) (by omega)
      have i2 : vp_in (nI (k + 2)) L := vp_in_nI (by omega) (by omega)
      have i3 : vp_in (nI (k + 3)) L := vp_in_nI (by omega) (by omega)
      obtain ⟨x1, hx1⟩ : ∃ x, xs (nI (k + 1)).toNatClampNeg = x := ⟨_, rfl⟩
      obtain ⟨x2, hx2⟩ : ∃ x, xs (nI (k + 2)).toNatClampNeg = x := ⟨_, rfl⟩
      obtain ⟨x3, hx3⟩ : ∃ x, xs (nI (k + 3)).toNatClampNeg = x := ⟨_, rfl⟩
      by_cases c2 : v < 0
      · refine lv_tableOut (tgt := 347) hx hb dL_law_32 (Or.inl (by have h9 := Int32.lt_iff_toInt_lt.mp c2; have e9 : (0 : Int32).toInt = 0 := (by decide); omega)) (by decide) ?_
        exact nx num wB wM H locs hB hM hP hD hS
      obtain ⟨j, hj, rfl⟩ := nI_of c2
      by_cases c3 : 8 < j
      · refine lv_tableOut (tgt := 347) hx hb dL_law_32 (Or.inr (by rw [nI_toInt hj]; omega)) (by decide) ?_
        exact nx num wB wM H locs hB hM hP hD hS
      have hj9 : j = 0 ∨ j = 1 ∨ j = 2 ∨ j = 3 ∨ j = 4 ∨ j = 5 ∨ j = 6 ∨ j = 7 ∨ j = 8 := by omega
      clear ev c2 c3 hj
      rcases hj9 with rfl | rfl | rfl | rfl | rfl | rfl | rfl | rfl | rfl
      · refine lv_tableIn (off := 52) (tgt := 84) hx hb dL_law_32 (by decide) (by decide) (by decide) (by decide) ?_
        refine lv_aload_n hx hb dL_law_84 rfl (lv_at hl 1 rfl) ?_
        refine lv_aload_n hx hb dL_law_85 rfl (lv_at hl 0 rfl) ?_
        refine lv_iload_n hx hb dL_law_86 rfl (lv_at hl 3 rfl) ?_
        refine lv_iconst (v := nI 1) hx hb dL_law_87 (by decide) ?_
        refine nn_add hx hb dL_law_88 ?_
        refine va_sld hx hb hX hbl hbA hS i1 dL_law_89 ?_
        refine ct_i hx1 ?_
        refine lv_aload_n hx hb dL_law_90 rfl (lv_at hl 0 rfl) ?_
        refine lv_iload_n hx hb dL_law_91 rfl (lv_at hl 3 rfl) ?_
        refine lv_iconst (v := nI 2) hx hb dL_law_92 (by decide) ?_
        refine nn_add hx hb dL_law_93 ?_
        refine va_sld hx hb hX hbl hbA hS i2 dL_law_94 ?_
        refine ct_i hx2 ?_
        refine lv_aload_n hx hb dL_law_95 rfl (lv_at hl 0 rfl) ?_
        refine lv_iload_n hx hb dL_law_96 rfl (lv_at hl 3 rfl) ?_
        refine lv_iconst (v := nI 3) hx hb dL_law_97 (by decide) ?_
        refine nn_add hx hb dL_law_98 ?_
        refine va_sld hx hb hX hbl hbA hS i3 dL_law_99 ?_
        refine ct_i hx3 ?_
        refine kL_b_place hC hK hB hP hD hS hA ⟨Nat.le_of_ble_eq_true rfl, Nat.le_of_ble_eq_true rfl⟩ hl.1 (Nat.le_of_ble_eq_true rfl) hcs dL_law_100 (fun wB H locs hB hP hD hS => ?_)
        refine lv_aload_n hx hb dL_law_103 rfl (lv_at hl 2 rfl) ?_
        refine lv_aload_n hx hb dL_law_104 rfl (lv_at hl 0 rfl) ?_
        refine lv_iload_n hx hb dL_law_105 rfl (lv_at hl 3 rfl) ?_
        refine lv_iconst (v := nI 1) hx hb dL_law_106 (by decide) ?_
        refine nn_add hx hb dL_law_107 ?_
        refine va_sld hx hb hX hbl hbA hS i1 dL_law_108 ?_
        refine ct_i hx1 ?_
        refine lv_aload_n hx hb dL_law_109 rfl (lv_at hl 0 rfl) ?_
        refine lv_iload_n hx hb dL_law_110 rfl (lv_at hl 3 rfl) ?_
        refine lv_iconst (v := nI 2) hx hb dL_law_111 (by decide) ?_
        refine nn_add hx hb dL_law_112 ?_
        refine va_sld hx hb hX hbl hbA hS i2 dL_law_113 ?_
        refine ct_i hx2 ?_
        refine lv_aload_n hx hb dL_law_114 rfl (lv_at hl 0 rfl) ?_
        refine lv_iload_n hx hb dL_law_115 rfl (lv_at hl 3 rfl) ?_
        refine lv_iconst (v := nI 3) hx hb dL_law_116 (by decide) ?_
        refine nn_add hx hb dL_law_117 ?_
        refine va_sld hx hb hX hbl hbA hS i3 dL_law_118 ?_
        refine ct_i hx3 ?_
        refine kL_m_place hC hK hM hP hD hS hA ⟨Nat.le_of_ble_eq_true rfl, Nat.le_of_ble_eq_true rfl⟩ hl.1 (Nat.le_of_ble_eq_true rfl) hcs dL_law_119 (fun wM H locs hM hP hD hS => ?_)
        refine lv_icmp_eq (tgt := 347) hx hb dL_law_122 (by decide) (fun _ => ?_) (fun c9 => absurd rfl c9)
        exact nx _ wB wM H locs hB hM hP hD hS
      · refine lv_tableIn (off := 95) (tgt := 127) hx hb dL_law_32 (by decide) (by decide) (by decide) (by decide) ?_
        refine lv_aload_n hx hb dL_law_127 rfl (lv_at hl 1 rfl) ?_
        refine lv_aload_n hx hb dL_law_128 rfl (lv_at hl 0 rfl) ?_
        refine lv_iload_n hx hb dL_law_129 rfl (lv_at hl 3 rfl) ?_
        refine lv_iconst (v := nI 1) hx hb dL_law_130 (by decide) ?_
        refine nn_add hx hb dL_law_131 ?_
        refine va_sld hx hb hX hbl hbA hS i1 dL_law_132 ?_
        refine ct_i hx1 ?_
        refine lv_aload_n hx hb dL_law_133 rfl (lv_at hl 0 rfl) ?_
        refine lv_iload_n hx hb dL_law_134 rfl (lv_at hl 3 rfl) ?_
        refine lv_iconst (v := nI 2) hx hb dL_law_135 (by decide) ?_
        refine nn_add hx hb dL_law_136 ?_
        refine va_sld hx hb hX hbl hbA hS i2 dL_law_137 ?_
        refine ct_i hx2 ?_
        refine kL_b_remove hC hK hB hP hD hS hA ⟨Nat.le_of_ble_eq_true rfl, Nat.le_of_ble_eq_true rfl⟩ hl.1 (Nat.le_of_ble_eq_true rfl) hcs dL_law_138 (fun wB H locs hB hP hD hS => ?_)
        refine lv_aload_n hx hb dL_law_141 rfl (lv_at hl 2 rfl) ?_
        refine lv_aload_n hx hb dL_law_142 rfl (lv_at hl 0 rfl) ?_
        refine lv_iload_n hx hb dL_law_143 rfl (lv_at hl 3 rfl) ?_
        refine lv_iconst (v := nI 1) hx hb dL_law_144 (by decide) ?_
        refine nn_add hx hb dL_law_145 ?_
        refine va_sld hx hb hX hbl hbA hS i1 dL_law_146 ?_
        refine ct_i hx1 ?_
        refine lv_aload_n hx hb dL_law_147 rfl (lv_at hl 0 rfl) ?_
        refine lv_iload_n hx hb dL_law_148 rfl (lv_at hl 3 rfl) ?_
        refine lv_iconst (v := nI 2) hx hb dL_law_149 (by decide) ?_
        refine nn_add hx hb dL_law_150 ?_
        refine va_sld hx hb hX hbl hbA hS i2 dL_law_151 ?_
        refine ct_i hx2 ?_
        refine kL_m_remove hC hK hM hP hD hS hA ⟨Nat.le_of_ble_eq_true rfl, Nat.le_of_ble_eq_true rfl⟩ hl.1 (Nat.le_of_ble_eq_true rfl) hcs dL_law_152 (fun wM H locs hM hP hD hS => ?_)
        refine lv_icmp_eq (tgt := 347) hx hb dL_law_155 (by decide) (fun _ => ?_) (fun c9 => absurd rfl c9)
        exact nx _ wB wM H locs hB hM hP hD hS
      · refine lv_tableIn (off := 128) (tgt := 160) hx hb dL_law_32 (by decide) (by decide) (by decide) (by decide) ?_
        refine lv_aload_n hx hb dL_law_160 rfl (lv_at hl 1 rfl) ?_
        refine lv_aload_n hx hb dL_law_161 rfl (lv_at hl 0 rfl) ?_
        refine lv_iload_n hx hb dL_law_162 rfl (lv_at hl 3 rfl) ?_
        refine lv_iconst (v := nI 1) hx hb dL_law_163 (by decide) ?_
        refine nn_add hx hb dL_law_164 ?_
        refine va_sld hx hb hX hbl hbA hS i1 dL_law_165 ?_
        refine ct_i hx1 ?_
        refine lv_aload_n hx hb dL_law_166 rfl (lv_at hl 0 rfl) ?_
        refine lv_iload_n hx hb dL_law_167 rfl (lv_at hl 3 rfl) ?_
        refine lv_iconst (v := nI 2) hx hb dL_law_168 (by decide) ?_
        refine nn_add hx hb dL_law_169 ?_
        refine va_sld hx hb hX hbl hbA hS i2 dL_law_170 ?_
        refine ct_i hx2 ?_
        refine kL_b_island hC hK hB hP hD hS hA ⟨Nat.le_of_ble_eq_true rfl, Nat.le_of_ble_eq_true rfl⟩ hl.1 (Nat.le_of_ble_eq_true rfl) hcs dL_law_171 (fun wB H locs hB hP hD hS => ?_)
        refine lv_aload_n hx hb dL_law_174 rfl (lv_at hl 2 rfl) ?_
        refine lv_aload_n hx hb dL_law_175 rfl (lv_at hl 0 rfl) ?_
        refine lv_iload_n hx hb dL_law_176 rfl (lv_at hl 3 rfl) ?_
        refine lv_iconst (v := nI 1) hx hb dL_law_177 (by decide) ?_
        refine nn_add hx hb dL_law_178 ?_
        refine va_sld hx hb hX hbl hbA hS i1 dL_law_179 ?_
        refine ct_i hx1 ?_
        refine lv_aload_n hx hb dL_law_180 rfl (lv_at hl 0 rfl) ?_
        refine lv_iload_n hx hb dL_law_181 rfl (lv_at hl 3 rfl) ?_
        refine lv_iconst (v := nI 2) hx hb dL_law_182 (by decide) ?_
        refine nn_add hx hb dL_law_183 ?_
        refine va_sld hx hb hX hbl hbA hS i2 dL_law_184 ?_
        refine ct_i hx2 ?_
        refine kL_m_island hC hK hM hP hD hS hA ⟨Nat.le_of_ble_eq_true rfl, Nat.le_of_ble_eq_true rfl⟩ hl.1 (Nat.le_of_ble_eq_true rfl) hcs dL_law_185 (fun wM H locs hM hP hD hS => ?_)
        refine lv_icmp_eq (tgt := 347) hx hb dL_law_188 (by decide) (fun _ => ?_) (fun c9 => absurd rfl c9)
        exact nx _ wB wM H locs hB hM hP hD hS
      · refine lv_tableIn (off := 161) (tgt := 193) hx hb dL_law_32 (by decide) (by decide) (by decide) (by decide) ?_
        refine lv_aload_n hx hb dL_law_193 rfl (lv_at hl 1 rfl) ?_
        refine kL_b_gaps hC hK hB hP hD hS hA ⟨Nat.le_of_ble_eq_true rfl, Nat.le_of_ble_eq_true rfl⟩ hl.1 (Nat.le_of_ble_eq_true rfl) hcs dL_law_194 (fun wB H locs hB hP hD hS => ?_)
        refine lv_aload_n hx hb dL_law_197 rfl (lv_at hl 2 rfl) ?_
        refine kL_m_gaps hC hK hM hP hD hS hA ⟨Nat.le_of_ble_eq_true rfl, Nat.le_of_ble_eq_true rfl⟩ hl.1 (Nat.le_of_ble_eq_true rfl) hcs dL_law_198 (fun wM H locs hM hP hD hS => ?_)
        refine lv_icmp_eq (tgt := 347) hx hb dL_law_201 (by decide) (fun _ => ?_) (fun c9 => absurd rfl c9)
        exact nx _ wB wM H locs hB hM hP hD hS
      · refine lv_tableIn (off := 174) (tgt := 206) hx hb dL_law_32 (by decide) (by decide) (by decide) (by decide) ?_
        refine lv_aload_n hx hb dL_law_206 rfl (lv_at hl 1 rfl) ?_
        refine lv_aload_n hx hb dL_law_207 rfl (lv_at hl 0 rfl) ?_
        refine lv_iload_n hx hb dL_law_208 rfl (lv_at hl 3 rfl) ?_
        refine lv_iconst (v := nI 1) hx hb dL_law_209 (by decide) ?_
        refine nn_add hx hb dL_law_210 ?_
        refine va_sld hx hb hX hbl hbA hS i1 dL_law_211 ?_
        refine ct_i hx1 ?_
        refine lv_aload_n hx hb dL_law_212 rfl (lv_at hl 0 rfl) ?_
        refine lv_iload_n hx hb dL_law_213 rfl (lv_at hl 3 rfl) ?_
        refine lv_iconst (v := nI 2) hx hb dL_law_214 (by decide) ?_
        refine nn_add hx hb dL_law_215 ?_
        refine va_sld hx hb hX hbl hbA hS i2 dL_law_216 ?_
        refine ct_i hx2 ?_
        refine lv_if_eq (tgt := 224) hx hb dL_law_217 (by decide) (fun c4 => ?_) (fun c4 => ?_)
        · refine lv_iconst (v := bo false) hx hb dL_law_224 (by decide) ?_
          refine kL_b_end hC hK hB hP hD hS hA ⟨Nat.le_of_ble_eq_true rfl, Nat.le_of_ble_eq_true rfl⟩ hl.1 (Nat.le_of_ble_eq_true rfl) hcs dL_law_225 (fun wB H locs hB hP hD hS => ?_)
          refine lv_aload_n hx hb dL_law_228 rfl (lv_at hl 2 rfl) ?_
          refine lv_aload_n hx hb dL_law_229 rfl (lv_at hl 0 rfl) ?_
          refine lv_iload_n hx hb dL_law_230 rfl (lv_at hl 3 rfl) ?_
          refine lv_iconst (v := nI 1) hx hb dL_law_231 (by decide) ?_
          refine nn_add hx hb dL_law_232 ?_
          refine va_sld hx hb hX hbl hbA hS i1 dL_law_233 ?_
          refine ct_i hx1 ?_
          refine lv_aload_n hx hb dL_law_234 rfl (lv_at hl 0 rfl) ?_
          refine lv_iload_n hx hb dL_law_235 rfl (lv_at hl 3 rfl) ?_
          refine lv_iconst (v := nI 2) hx hb dL_law_236 (by decide) ?_
          refine nn_add hx hb dL_law_237 ?_
          refine va_sld hx hb hX hbl hbA hS i2 dL_law_238 ?_
          refine ct_i hx2 ?_
          refine lv_if_eq (tgt := 246) hx hb dL_law_239 (by decide) (fun _ => ?_) (fun c5 => absurd c4 c5)
          refine lv_iconst (v := bo false) hx hb dL_law_246 (by decide) ?_
          refine kL_m_end hC hK hM hP hD hS hA ⟨Nat.le_of_ble_eq_true rfl, Nat.le_of_ble_eq_true rfl⟩ hl.1 (Nat.le_of_ble_eq_true rfl) hcs dL_law_247 (fun wM H locs hM hP hD hS => ?_)
          refine lv_icmp_eq (tgt := 347) hx hb dL_law_250 (by decide) (fun _ => ?_) (fun c9 => absurd rfl c9)
          exact nx _ wB wM H locs hB hM hP hD hS
        · refine lv_iconst (v := bo true) hx hb dL_law_220 (by decide) ?_
          refine lv_goto (tgt := 225) hx hb dL_law_221 (by decide) ?_
          refine kL_b_end hC hK hB hP hD hS hA ⟨Nat.le_of_ble_eq_true rfl, Nat.le_of_ble_eq_true rfl⟩ hl.1 (Nat.le_of_ble_eq_true rfl) hcs dL_law_225 (fun wB H locs hB hP hD hS => ?_)
          refine lv_aload_n hx hb dL_law_228 rfl (lv_at hl 2 rfl) ?_
          refine lv_aload_n hx hb dL_law_229 rfl (lv_at hl 0 rfl) ?_
          refine lv_iload_n hx hb dL_law_230 rfl (lv_at hl 3 rfl) ?_
          refine lv_iconst (v := nI 1) hx hb dL_law_231 (by decide) ?_
          refine nn_add hx hb dL_law_232 ?_
          refine va_sld hx hb hX hbl hbA hS i1 dL_law_233 ?_
          refine ct_i hx1 ?_
          refine lv_aload_n hx hb dL_law_234 rfl (lv_at hl 0 rfl) ?_
          refine lv_iload_n hx hb dL_law_235 rfl (lv_at hl 3 rfl) ?_
          refine lv_iconst (v := nI 2) hx hb dL_law_236 (by decide) ?_
          refine nn_add hx hb dL_law_237 ?_
          refine va_sld hx hb hX hbl hbA hS i2 dL_law_238 ?_
          refine ct_i hx2 ?_
          refine lv_if_eq (tgt := 246) hx hb dL_law_239 (by decide) (fun c5 => absurd c5 c4) (fun _ => ?_)
          refine lv_iconst (v := bo true) hx hb dL_law_242 (by decide) ?_
          refine lv_goto (tgt := 247) hx hb dL_law_243 (by decide) ?_
          refine kL_m_end hC hK hM hP hD hS hA ⟨Nat.le_of_ble_eq_true rfl, Nat.le_of_ble_eq_true rfl⟩ hl.1 (Nat.le_of_ble_eq_true rfl) hcs dL_law_247 (fun wM H locs hM hP hD hS => ?_)
          refine lv_icmp_eq (tgt := 347) hx hb dL_law_250 (by decide) (fun _ => ?_) (fun c9 => absurd rfl c9)
          exact nx _ wB wM H locs hB hM hP hD hS
      · refine lv_tableIn (off := 223) (tgt := 255) hx hb dL_law_32 (by decide) (by decide) (by decide) (by decide) ?_
        refine lv_aload_n hx hb dL_law_255 rfl (lv_at hl 1 rfl) ?_
        refine kL_b_solutions hC hK hB hP hD hS hA ⟨Nat.le_of_ble_eq_true rfl, Nat.le_of_ble_eq_true rfl⟩ hl.1 (Nat.le_of_ble_eq_true rfl) hcs dL_law_256 (fun wB H locs hB hP hD hS => ?_)
        refine lv_aload_n hx hb dL_law_259 rfl (lv_at hl 2 rfl) ?_
        refine kL_m_solutions hC hK hM hP hD hS hA ⟨Nat.le_of_ble_eq_true rfl, Nat.le_of_ble_eq_true rfl⟩ hl.1 (Nat.le_of_ble_eq_true rfl) hcs dL_law_260 (fun wM H locs hM hP hD hS => ?_)
        refine lv_icmp_eq (tgt := 347) hx hb dL_law_263 (by decide) (fun _ => ?_) (fun c9 => absurd rfl c9)
        exact nx _ wB wM H locs hB hM hP hD hS
      · refine lv_tableIn (off := 236) (tgt := 268) hx hb dL_law_32 (by decide) (by decide) (by decide) (by decide) ?_
        refine lv_aload_n hx hb dL_law_268 rfl (lv_at hl 1 rfl) ?_
        refine lv_aload_n hx hb dL_law_269 rfl (lv_at hl 0 rfl) ?_
        refine lv_iload_n hx hb dL_law_270 rfl (lv_at hl 3 rfl) ?_
        refine lv_iconst (v := nI 1) hx hb dL_law_271 (by decide) ?_
        refine nn_add hx hb dL_law_272 ?_
        refine va_sld hx hb hX hbl hbA hS i1 dL_law_273 ?_
        refine ct_i hx1 ?_
        refine kL_b_least hC hK hB hP hD hS hA ⟨Nat.le_of_ble_eq_true rfl, Nat.le_of_ble_eq_true rfl⟩ hl.1 (Nat.le_of_ble_eq_true rfl) hcs dL_law_274 (fun wB H locs hB hP hD hS => ?_)
        refine lv_aload_n hx hb dL_law_277 rfl (lv_at hl 2 rfl) ?_
        refine lv_aload_n hx hb dL_law_278 rfl (lv_at hl 0 rfl) ?_
        refine lv_iload_n hx hb dL_law_279 rfl (lv_at hl 3 rfl) ?_
        refine lv_iconst (v := nI 1) hx hb dL_law_280 (by decide) ?_
        refine nn_add hx hb dL_law_281 ?_
        refine va_sld hx hb hX hbl hbA hS i1 dL_law_282 ?_
        refine ct_i hx1 ?_
        refine kL_m_least hC hK hM hP hD hS hA ⟨Nat.le_of_ble_eq_true rfl, Nat.le_of_ble_eq_true rfl⟩ hl.1 (Nat.le_of_ble_eq_true rfl) hcs dL_law_283 (fun wM H locs hM hP hD hS => ?_)
        refine lv_icmp_eq (tgt := 347) hx hb dL_law_286 (by decide) (fun _ => ?_) (fun c9 => absurd rfl c9)
        exact nx _ wB wM H locs hB hM hP hD hS
      · refine lv_tableIn (off := 259) (tgt := 291) hx hb dL_law_32 (by decide) (by decide) (by decide) (by decide) ?_
        refine lv_aload_n hx hb dL_law_291 rfl (lv_at hl 1 rfl) ?_
        refine lv_aload_n hx hb dL_law_292 rfl (lv_at hl 0 rfl) ?_
        refine lv_iload_n hx hb dL_law_293 rfl (lv_at hl 3 rfl) ?_
        refine lv_iconst (v := nI 1) hx hb dL_law_294 (by decide) ?_
        refine nn_add hx hb dL_law_295 ?_
        refine va_sld hx hb hX hbl hbA hS i1 dL_law_296 ?_
        refine ct_i hx1 ?_
        refine kL_b_always hC hK hB hP hD hS hA ⟨Nat.le_of_ble_eq_true rfl, Nat.le_of_ble_eq_true rfl⟩ hl.1 (Nat.le_of_ble_eq_true rfl) hcs dL_law_297 (fun wB H locs hB hP hD hS => ?_)
        refine lv_aload_n hx hb dL_law_300 rfl (lv_at hl 2 rfl) ?_
        refine lv_aload_n hx hb dL_law_301 rfl (lv_at hl 0 rfl) ?_
        refine lv_iload_n hx hb dL_law_302 rfl (lv_at hl 3 rfl) ?_
        refine lv_iconst (v := nI 1) hx hb dL_law_303 (by decide) ?_
        refine nn_add hx hb dL_law_304 ?_
        refine va_sld hx hb hX hbl hbA hS i1 dL_law_305 ?_
        refine ct_i hx1 ?_
        refine kL_m_always hC hK hM hP hD hS hA ⟨Nat.le_of_ble_eq_true rfl, Nat.le_of_ble_eq_true rfl⟩ hl.1 (Nat.le_of_ble_eq_true rfl) hcs dL_law_306 (fun wM H locs hM hP hD hS => ?_)
        refine lv_icmp_eq (tgt := 347) hx hb dL_law_309 (by decide) (fun _ => ?_) (fun c9 => absurd rfl c9)
        exact nx _ wB wM H locs hB hM hP hD hS
      · refine lv_tableIn (off := 282) (tgt := 314) hx hb dL_law_32 (by decide) (by decide) (by decide) (by decide) ?_
        refine lv_aload_n hx hb dL_law_314 rfl (lv_at hl 1 rfl) ?_
        refine lv_aload_n hx hb dL_law_315 rfl (lv_at hl 0 rfl) ?_
        refine lv_iload_n hx hb dL_law_316 rfl (lv_at hl 3 rfl) ?_
        refine lv_iconst (v := nI 1) hx hb dL_law_317 (by decide) ?_
        refine nn_add hx hb dL_law_318 ?_
        refine va_sld hx hb hX hbl hbA hS i1 dL_law_319 ?_
        refine ct_i hx1 ?_
        refine lv_aload_n hx hb dL_law_320 rfl (lv_at hl 0 rfl) ?_
        refine lv_iload_n hx hb dL_law_321 rfl (lv_at hl 3 rfl) ?_
        refine lv_iconst (v := nI 2) hx hb dL_law_322 (by decide) ?_
        refine nn_add hx hb dL_law_323 ?_
        refine va_sld hx hb hX hbl hbA hS i2 dL_law_324 ?_
        refine ct_i hx2 ?_
        refine kL_b_with hC hK hB hP hD hS hA ⟨Nat.le_of_ble_eq_true rfl, Nat.le_of_ble_eq_true rfl⟩ hl.1 (Nat.le_of_ble_eq_true rfl) hcs dL_law_325 (fun wB H locs hB hP hD hS => ?_)
        refine lv_aload_n hx hb dL_law_328 rfl (lv_at hl 2 rfl) ?_
        refine lv_aload_n hx hb dL_law_329 rfl (lv_at hl 0 rfl) ?_
        refine lv_iload_n hx hb dL_law_330 rfl (lv_at hl 3 rfl) ?_
        refine lv_iconst (v := nI 1) hx hb dL_law_331 (by decide) ?_
        refine nn_add hx hb dL_law_332 ?_
        refine va_sld hx hb hX hbl hbA hS i1 dL_law_333 ?_
        refine ct_i hx1 ?_
        refine lv_aload_n hx hb dL_law_334 rfl (lv_at hl 0 rfl) ?_
        refine lv_iload_n hx hb dL_law_335 rfl (lv_at hl 3 rfl) ?_
        refine lv_iconst (v := nI 2) hx hb dL_law_336 (by decide) ?_
        refine nn_add hx hb dL_law_337 ?_
        refine va_sld hx hb hX hbl hbA hS i2 dL_law_338 ?_
        refine ct_i hx2 ?_
        refine kL_m_with hC hK hM hP hD hS hA ⟨Nat.le_of_ble_eq_true rfl, Nat.le_of_ble_eq_true rfl⟩ hl.1 (Nat.le_of_ble_eq_true rfl) hcs dL_law_339 (fun wM H locs hM hP hD hS => ?_)
        refine lv_icmp_eq (tgt := 347) hx hb dL_law_342 (by decide) (fun _ => ?_) (fun c9 => absurd rfl c9)
        exact nx _ wB wM H locs hB hM hP hD hS
end
section
/-! the law's body from its entry -/
set_option maxRecDepth 100000
theorem ar_known {s : State} {args : Array Value} {ty : FieldType} (harr : (Cond.arrayClass ty).before args s = true) : ∃ cA : ClassId, ArrOfT s cA ty ∧ s.vm.findClass ("[" ++ ty.toString) = some cA := by
  obtain ⟨cA, kA, comp, h1, h2, h3⟩ := Cond.arrayClass_spec harr
  exact ⟨cA, fun n z => ⟨fun k h => (by cases h), kA, h2, comp, h3⟩, h1⟩
set_option maxHeartbeats 4000000 in
set_option maxRecDepth 100000 in
theorem whole_start {p : Program} {e : Env} {s : State} {m : MethodId} {below : List Frame} {meth : Method} {c : Code} (l : Launch) {b L : Nat} {xs : Nat → Int32} (hL : L ≤ 256) (C0 : lw_At p s m meth c b L xs) : W p l e room_1 s m #[Value.ref b] below meth c s.heap [] 0 0 (lw_Z below #[Value.ref b] s) (entryFrame m ([Value.ref b] : List Value).toArray 4) := by
  obtain ⟨hx, hb, hr, hml, hown, hts0, hX, hbl, hlocks, hgv⟩ := id C0
  have hA : ∀ q : Nat, s.heap.size ≤ q → (fun q : Nat => s.heap.size ≤ q) q := fun _ h => h
  have hts : ∀ w ∈ lw_all, w.before #[Value.ref b] s = true := fun w h => hts0 w (lw_all_tbl h)
  have hC : CallFix p m c code 4 s #[Value.ref b] lw_all R_law := ⟨hx, hb, hml, hown, hts⟩
  obtain ⟨c0, iS0, hKn0⟩ := u_known (C := RX0) (T := TX0) (N := 17) (n := 17) hts in_X0 (hts _ q27)
  obtain ⟨c1, iS1, hKn1⟩ := u_known (C := RX1) (T := TX1) (N := 7) (n := 7) hts in_X1 (hts _ q196)
  obtain ⟨dC, dD, hKc⟩ : ∃ (dC : Nat → ClassId) (dD : Nat → Nat → Nat), ∀ (k : Nat) (q : vw_C), vwCl[k]? = some q → u_Kn s q.1 q.2.1 q.2.2 (dC k) (dD k) := by
    refine ⟨fun k => if k = 0 then c0 else c1, fun k => if k = 0 then iS0 else iS1, ?_⟩
    intro k q hq
    match k, hq with
    | 0, hq => cases hq; exact hKn0
    | 1, hq => cases hq; exact hKn1
    | k + 2, hq => simp [vwCl] at hq
  obtain ⟨dI, hI1, hI2⟩ := ar_known (hts _ q94)
  obtain ⟨dJ, hJ1, hJ2⟩ := ar_known (hts _ q95)
  obtain ⟨dZ, hZ1, hZ2⟩ := ar_known (hts _ q223)
  have hK : va_K (dC, dD) vwCl (kM dI dJ dZ) s := by
    refine ⟨hKc, fun k q hq => ?_⟩
    match k, hq with
    | 0, hq => cases hq; exact ⟨hI1, hI2⟩
    | 1, hq => cases hq; exact ⟨hJ1, hJ2⟩
    | 2, hq => cases hq; exact ⟨hZ1, hZ2⟩
    | k + 3, hq => simp [kM] at hq
  have hS : va_S (fun q : Nat => s.heap.size ≤ q) s.heap s.heap [] := va_S.rf
  have hP : va_P (dC, dD) vwCl [] s.heap := fun k q h => by simp at h
  have hD : va_D (fun q : Nat => s.heap.size ≤ q) [] := ⟨fun i j p q h => by simp at h, fun k q h => by simp at h⟩
  have hl := lv_entry ([.ref b]) (n := 4) (Nat.le_of_ble_eq_true rfl)
  rw [lg_entry_eq]
  generalize (lg_sl ([.ref b]) ++ List.replicate (4 - (lg_sl ([.ref b])).length) Slot.unset).toArray = ls at hl ⊢
  have hl : lv_has ls 4 [(0, .ref b)] := hl
  refine va_new (ci := 0) (fs := [.null, .int 0, .int 0, .null, .null, .int 0, .null, .null, .null, .null, .int 0, .int 0, .int 0, .null, .null, .null, .null]) (C := RX0) (T := TX0) (N := 17) hx hb hts in_X0 tyX0 tyX0_ok hown (hts _ q26) (hts _ q27) (hts _ q24) hK hP hD hS hA rfl (fun j hj => by rcases (show j = 0 ∨ j = 1 ∨ j = 2 ∨ j = 3 ∨ j = 4 ∨ j = 5 ∨ j = 6 ∨ j = 7 ∨ j = 8 ∨ j = 9 ∨ j = 10 ∨ j = 11 ∨ j = 12 ∨ j = 13 ∨ j = 14 ∨ j = 15 ∨ j = 16 by omega) with rfl | rfl | rfl | rfl | rfl | rfl | rfl | rfl | rfl | rfl | rfl | rfl | rfl | rfl | rfl | rfl | rfl <;> rfl) (Nat.le_of_ble_eq_true rfl) (Nat.le_of_ble_eq_true rfl) dL_law_0 (fun hx0 H hP hD hS => ?_)
  refine W.widen (k := 1) (n := 17) (Nat.le_of_ble_eq_true rfl) (Nat.le_of_ble_eq_true rfl) ?_
  refine lv_dup hx hb dL_law_3 rfl ?_
  have hP : va_P (dC, dD) vwCl (w0_b hx0 ++ []) H := hP
  have hD : va_D (fun q : Nat => s.heap.size ≤ q) (w0_b hx0 ++ []) := hD
  refine kj_I (rest := [.ref hx0]) (As := []) hC (t_b_init l (dC, dD) hx0 dI dJ H.size) (cwI 0 hts (lw_meth q30) rfl rfl rfl (hts _ q24) (hts _ q28) (hts _ q29) rfl (by decide +kernel) ⟨Nat.le_of_ble_eq_true rfl, Nat.le_of_ble_eq_true rfl⟩) rfl hl.1 rfl (Nat.le_of_ble_eq_true rfl) ⟨Nat.le_of_ble_eq_true rfl, Nat.le_of_ble_eq_true rfl⟩ hP (hK.sub [0, 1] rfl) hD hS hA dL_law_4 (fun wB H locs hB hP hD hS => ?_)
  refine W.widen (k := 12) (n := 215) (Nat.le_of_ble_eq_true rfl) (Nat.le_of_ble_eq_true rfl) ?_
  have hP : va_P (dC, dD) vwCl wB H := hP
  have hD : va_D (fun q : Nat => s.heap.size ≤ q) wB := hD
  refine lv_astore_n (lv' := [(1, .ref hx0), (0, .ref b)]) hx hb dL_law_7 rfl hl (by decide) rfl (fun ls hl => ?_)
  refine va_new (ci := 1) (fs := [.null, .int 0, .null, .null, .null, .null, .null]) (C := RX1) (T := TX1) (N := 7) hx hb hts in_X1 tyX1 tyX1_ok hown (hts _ q195) (hts _ q196) (hts _ q25) hK hP hD hS hA rfl (fun j hj => by rcases (show j = 0 ∨ j = 1 ∨ j = 2 ∨ j = 3 ∨ j = 4 ∨ j = 5 ∨ j = 6 by omega) with rfl | rfl | rfl | rfl | rfl | rfl | rfl <;> rfl) (Nat.le_of_ble_eq_true rfl) (Nat.le_of_ble_eq_true rfl) dL_law_8 (fun hm0 H hP hD hS => ?_)
  refine W.widen (k := 13) (n := 222) (Nat.le_of_ble_eq_true rfl) (Nat.le_of_ble_eq_true rfl) ?_
  refine lv_dup hx hb dL_law_11 rfl ?_
  have hP : va_P (dC, dD) vwCl (w0_m hm0 ++ wB) H := va_Psw hP
  have hD : va_D (fun q : Nat => s.heap.size ≤ q) (w0_m hm0 ++ wB) := va_Dsw hD
  refine kj_I (rest := [.ref hm0]) (As := []) hC (t_m_init l (dC, dD) hm0 dI dJ dZ H.size) (cwI 0 hts (lw_meth q199) rfl rfl rfl (hts _ q25) (hts _ q197) (hts _ q198) rfl (by decide +kernel) ⟨Nat.le_of_ble_eq_true rfl, Nat.le_of_ble_eq_true rfl⟩) rfl hl.1 rfl (Nat.le_of_ble_eq_true rfl) ⟨Nat.le_of_ble_eq_true rfl, Nat.le_of_ble_eq_true rfl⟩ hP hK hD hS hA dL_law_12 (fun wM H locs hM hP hD hS => ?_)
  refine W.widen (k := 600000) (n := 7290000) (Nat.le_of_ble_eq_true rfl) (Nat.le_of_ble_eq_true rfl) ?_
  refine lv_astore_n (lv' := [(2, .ref hm0), (1, .ref hx0), (0, .ref b)]) hx hb dL_law_15 rfl hl (by decide) rfl (fun ls hl => ?_)
  refine lv_iconst (v := nI 0) hx hb dL_law_16 (by decide) ?_
  refine lv_istore_n (lv' := [(3, .int (nI 0)), (2, .ref hm0), (1, .ref hx0), (0, .ref b)]) hx hb dL_law_17 rfl hl (by decide) rfl (fun ls hl => ?_)
  exact law_loop hL C0 hK (L + 5) 0 z0 wB wM H locs ls (by omega) (by omega) hB hM hP hD hS (lv_sub hl [3, 2, 1, 0] rfl)
end
section
set_option maxHeartbeats 4000000 in
theorem lw_walk (l : Launch) (b : Addr) (xs : List Int32) : MetFree l x (headSpec (Jvm.Cond.code x code maxLocals ret :: tables_1) room_1) (lw_P b xs) (fun _ _ _ _ _ => True) lw_Q := by
  refine MetFree.of_bodyS (code := code) (maxLocals := maxLocals) (ret := ret) (by decide) ?_ ?_
  · intro args s m h hn
    obtain ⟨meth, c, h1, h2, h3, h4, h5, h6, -, -⟩ := Cond.code_spec hn (atoms_spec (ws := Jvm.Cond.code x code maxLocals ret :: tables_1) h _ List.mem_cons_self)
    exact ⟨meth, c, h1, h2, h3, h4, h5, h6⟩
  · intro p e s m args below meth c s₁ B hml0 hP _
    obtain ⟨rfl, hx, hbd, hgv⟩ := hP
    obtain ⟨scr, harrAt, hlist, hof, hsmall⟩ := hx
    obtain ⟨hcb, hkn, -, -⟩ := State.arrayAt?_spec harrAt
    have hown : s.vm.findClass R_law = some m.cls := findClass_of_methodNamed B.named
    have hts0 : ∀ c ∈ (Jvm.Cond.code x code maxLocals ret :: tables_1), c.before #[Value.ref b] s = true := atoms_spec (ws := Jvm.Cond.code x code maxLocals ret :: tables_1) B.pre
    have hts : ∀ w ∈ lw_tbl, w.before #[Value.ref b] s = true := k2_hts_sels lw_privs (fun w hw => hts0 w (List.mem_cons_of_mem _ hw)) lw_privs_ok
    have hml : c.maxLocals = 4 := B.maxLocals_eq (hts0 _ List.mem_cons_self)
    have X₀ : Stand p l e room_1 s m #[Value.ref b] below meth c s₁ [] 0 0 := Stand.of_body B
    have hh0 : s₁.heap = s.heap := by rw [B.state]; rfl
    have hsz : scr.slots.size = xs.length := by rw [← Array.length_toList, hlist, List.length_map]
    have hval : ∀ j : Nat, j < xs.length → scr.slots[j]? = some (.int (xs.getD j 0)) := fun j hj => by
      rw [← Array.getElem?_toList, hlist]
      simp [hj]
    have hbl : b < s.heap.size := (Array.getElem?_eq_some_iff.mp hcb).1
    have hX : va_X b xs.length (fun j => xs.getD j 0) s s.heap := ⟨scr, hcb, hof, hkn, hsz, hval⟩
    have K : W p l e room_1 s m #[Value.ref b] below meth c s₁.heap [] 0 0 (lw_Z below #[Value.ref b] s) (entryFrame m ([Value.ref b] : List Value).toArray 4) := by
      rw [hh0]
      exact whole_start l hbd ⟨B.exec, B.bytes, B.returns, hml, hown, hts, hX, hbl, B.notSynchronized, hgv⟩
    obtain ⟨t, a1, o, b1, b2, b3⟩ := K s₁ rfl X₀
    exact ⟨t, o, a1, b1, b2, b3⟩
theorem lw_pre_spec {args : Array Value} {s : State} (h : (Jvm.Cond.and given_1 narrow_1).before args s = true) (hr : rest_1_c.before args s = true) : ∃ (b : Addr) (xs : List Int32), lw_P b xs args s := by
  have hs := flat_of_before _ h
  have hq := flat_of_before _ hr
  have hc : (Cond.count 1).before args s = true := hs _ (by decide +kernel)
  have harr : (Cond.arrayOf (.arg 0) .int).before args s = true := hs _ (by decide +kernel)
  have hle : (Cond.le (.length (.arg 0)) (.int 256)).before args s = true := hs _ (by decide +kernel)
  have hlen : (Cond.isInt (.length (.arg 0))).before args s = true := hq _ (by decide +kernel)
  have hall : (Cond.all (.arg 0) (.isInt (.elem (.arg 0) (.index 0)))).before args s = true := hq _ (by decide +kernel)
  obtain ⟨b, xs, hb, hx⟩ := State.ints_of_pre rfl harr hlen hall
  have hsm : xs.length < 2 ^ 31 := hx.choose_spec.2.2.2
  have hev : (Term.length (.arg 0)).eval args s none [] s = some (.int xs.length.toInt32) := hx.length_eval hb
  have hv := Cond.le_ints hev (show (Term.int 256).eval args s none [] s = some (.int 256) from rfl)
  have hd : xs.length.toInt32 ≤ 256 := by
    simpa [Cond.before, Cond.holds, hv] using hle
  have hN : xs.length ≤ 256 := (Int32.ofNat_le_ofNat hsm (by decide)).mp (show Int32.ofNat xs.length ≤ Int32.ofNat 256 from hd)
  exact ⟨b, xs, Cond.one_arg hc (show args[0]? = some (.ref b) from hb), hx, hN, h⟩
theorem lw_comes (l : Launch) : Comes l x (Jvm.Cond.code x code maxLocals ret :: tables_1) room_1 (fun tb e args s => Calls_1 tb e args s ∧ rest_1 tb e args s ∧ Pre_1 tb e args s)
    (fun _ _ args s o t => lw_Q args s o t) := by
  intro p e ha hc hk s m args below hf hfit hheap happ hpre
  obtain ⟨b, xs, hP⟩ := lw_pre_spec hpre.2.2 hpre.2.1
  obtain ⟨k, o, h1, h2, h3, hQ⟩ := lw_walk l b xs p e ha hc hk s m args below hf ((Spec.applies_iff_loose hf).mp happ).1 hP trivial
  exact ⟨k, o, h1, h2, h3, hQ⟩
theorem lw_frame {s t : State} {o : Outcome} {args : Array Value} (h : Framed s o t [] 600000 7290000) :
    Framed s o t (fieldLocs frame_1_writes args s ++ arrayLocs frame_1_arrays args s ++ staticLocs frame_1_statics s) 600000 7290000 := h
theorem lw_limb (L : Cond) (hL : ∀ (args : Array Value) (s t : State), L.after args s (.returned (some (.int 1))) t = true) :
    ArmFor flags0 classFile x code maxLocals ret World_1 tables_1 room_1 Calls_1 rest_1 Pre_1
      (fun tb e a s o t => postC L tb e a s o t ∧ Framed s o t (fieldLocs frame_1_writes a s ++ arrayLocs frame_1_arrays a s ++ staticLocs frame_1_statics s) 600000 7290000) := by
  intro l _ _ _ p e ha hc hk s m args below hf hfit hheap happ hpre
  obtain ⟨k, o, h1, h2, h3, rfl, hF⟩ := lw_comes l p e ha hc hk s m args below hf hfit hheap happ hpre
  exact ⟨k, _, h1, h2, h3, hL args s _, lw_frame hF⟩
theorem i_vc : Claimed_1_1 ∧ Claimed_1_2 := ⟨lw_limb limb_1_1 (fun args s t => by simp [limb_1_1, Cond.after, Cond.holds, Cond.value]), lw_limb limb_1_2 (fun args s t => Cond.after_iff.mpr (by
  first | (rw [show limb_1_2 = Cond.eq .result (.int 1) from rfl, Cond.eq_ints (x := 1) (y := 1) rfl rfl]; simp; done) | (simp [limb_1_2, Cond.value, Term.eval]; done)))⟩
end
