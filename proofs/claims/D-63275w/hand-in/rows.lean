section
-- ===== PART A: goes FIRST, ahead of the names: the tables' words, and 'selects' of the private methods out of them =====
/-- a private method of a class that the tables say can be made, by its rows of tables_1 -/
def lw_okq (q : MethodName × Nat) : Prop := (q.1.cls ≠ "java/lang/invoke/MethodHandle" ∧ q.1.cls ≠ "java/lang/invoke/VarHandle") ∧ Cond.instantiable q.1.cls q.2 ∈ tables_1 ∧ Cond.privateMethod q.1 ∈ tables_1 ∧ Cond.instanceMethod q.1 ∈ tables_1
set_option maxRecDepth 100000
theorem lw_t1 {w : Cond} (h : w ∈ tables_1_1) : w ∈ tables_1 := List.mem_append_left _ h
theorem lw_t2 {w : Cond} (h : w ∈ tables_1_2) : w ∈ tables_1 := List.mem_append_right _ h
theorem lw_p0 : lw_okq (⟨"RollbackGame", "replay", "(II)I"⟩, 7) := ⟨⟨by decide +kernel, by decide +kernel⟩, lw_t1 (List.mem_of_getElem? (i := 4) rfl), lw_t1 (List.mem_of_getElem? (i := 12) rfl), lw_t1 (List.mem_of_getElem? (i := 13) rfl)⟩
theorem lw_p1 : lw_okq (⟨"RollbackGame", "step", "(III)I"⟩, 7) := ⟨⟨by decide +kernel, by decide +kernel⟩, lw_t1 (List.mem_of_getElem? (i := 4) rfl), lw_t1 (List.mem_of_getElem? (i := 16) rfl), lw_t1 (List.mem_of_getElem? (i := 17) rfl)⟩
theorem lw_p2 : lw_okq (⟨"RollbackGame", "load", "(I)V"⟩, 7) := ⟨⟨by decide +kernel, by decide +kernel⟩, lw_t1 (List.mem_of_getElem? (i := 4) rfl), lw_t1 (List.mem_of_getElem? (i := 23) rfl), lw_t1 (List.mem_of_getElem? (i := 24) rfl)⟩
theorem lw_p3 : lw_okq (⟨"RollbackGame", "go", "(II)V"⟩, 7) := ⟨⟨by decide +kernel, by decide +kernel⟩, lw_t1 (List.mem_of_getElem? (i := 4) rfl), lw_t1 (List.mem_of_getElem? (i := 28) rfl), lw_t1 (List.mem_of_getElem? (i := 29) rfl)⟩
theorem lw_p4 : lw_okq (⟨"RollbackGame", "strike", "(IIZ)V"⟩, 7) := ⟨⟨by decide +kernel, by decide +kernel⟩, lw_t1 (List.mem_of_getElem? (i := 4) rfl), lw_t1 (List.mem_of_getElem? (i := 32) rfl), lw_t1 (List.mem_of_getElem? (i := 33) rfl)⟩
theorem lw_p5 : lw_okq (⟨"RollbackGame", "pack", "()I"⟩, 7) := ⟨⟨by decide +kernel, by decide +kernel⟩, lw_t1 (List.mem_of_getElem? (i := 4) rfl), lw_t1 (List.mem_of_getElem? (i := 36) rfl), lw_t1 (List.mem_of_getElem? (i := 37) rfl)⟩
theorem lw_p6 : lw_okq (⟨"RollbackGame", "use", "(III)I"⟩, 7) := ⟨⟨by decide +kernel, by decide +kernel⟩, lw_t1 (List.mem_of_getElem? (i := 4) rfl), lw_t1 (List.mem_of_getElem? (i := 75) rfl), lw_t1 (List.mem_of_getElem? (i := 76) rfl)⟩
theorem lw_p7 : lw_okq (⟨"RollbackGame", "guess", "(II)I"⟩, 7) := ⟨⟨by decide +kernel, by decide +kernel⟩, lw_t1 (List.mem_of_getElem? (i := 4) rfl), lw_t1 (List.mem_of_getElem? (i := 79) rfl), lw_t1 (List.mem_of_getElem? (i := 80) rfl)⟩
theorem lw_p8 : lw_okq (⟨"RollbackGame", "firstMissing", "(I)I"⟩, 7) := ⟨⟨by decide +kernel, by decide +kernel⟩, lw_t1 (List.mem_of_getElem? (i := 4) rfl), lw_t1 (List.mem_of_getElem? (i := 95) rfl), lw_t1 (List.mem_of_getElem? (i := 96) rfl)⟩
theorem lw_p9 : lw_okq (⟨"RollbackGameModel", "player", "(I)Z"⟩, 6) := ⟨⟨by decide +kernel, by decide +kernel⟩, lw_t1 (List.mem_of_getElem? (i := 136) rfl), lw_t1 (List.mem_of_getElem? (i := 165) rfl), lw_t1 (List.mem_of_getElem? (i := 166) rfl)⟩
theorem lw_p10 : lw_okq (⟨"RollbackGameModel", "frame", "(I)Z"⟩, 6) := ⟨⟨by decide +kernel, by decide +kernel⟩, lw_t1 (List.mem_of_getElem? (i := 136) rfl), lw_t1 (List.mem_of_getElem? (i := 169) rfl), lw_t1 (List.mem_of_getElem? (i := 170) rfl)⟩
theorem lw_p11 : lw_okq (⟨"RollbackGameModel", "picture", "(I)I"⟩, 6) := ⟨⟨by decide +kernel, by decide +kernel⟩, lw_t1 (List.mem_of_getElem? (i := 136) rfl), lw_t1 (List.mem_of_getElem? (i := 173) rfl), lw_t1 (List.mem_of_getElem? (i := 174) rfl)⟩
theorem lw_p12 : lw_okq (⟨"RollbackGameModel", "play", "(I)V"⟩, 6) := ⟨⟨by decide +kernel, by decide +kernel⟩, lw_t1 (List.mem_of_getElem? (i := 136) rfl), lw_t1 (List.mem_of_getElem? (i := 177) rfl), lw_t1 (List.mem_of_getElem? (i := 178) rfl)⟩
theorem lw_p13 : lw_okq (⟨"RollbackGameModel", "over", "()Z"⟩, 6) := ⟨⟨by decide +kernel, by decide +kernel⟩, lw_t1 (List.mem_of_getElem? (i := 136) rfl), lw_t1 (List.mem_of_getElem? (i := 181) rfl), lw_t1 (List.mem_of_getElem? (i := 182) rfl)⟩
theorem lw_p14 : lw_okq (⟨"RollbackGameModel", "step", "(I)V"⟩, 6) := ⟨⟨by decide +kernel, by decide +kernel⟩, lw_t1 (List.mem_of_getElem? (i := 136) rfl), lw_t1 (List.mem_of_getElem? (i := 185) rfl), lw_t1 (List.mem_of_getElem? (i := 186) rfl)⟩
theorem lw_p15 : lw_okq (⟨"RollbackGameModel", "used", "(II)I"⟩, 6) := ⟨⟨by decide +kernel, by decide +kernel⟩, lw_t1 (List.mem_of_getElem? (i := 136) rfl), lw_t1 (List.mem_of_getElem? (i := 189) rfl), lw_t1 (List.mem_of_getElem? (i := 190) rfl)⟩
def lw_privs_1 : List (MethodName × Nat) := [(⟨"RollbackGame", "replay", "(II)I"⟩, 7), (⟨"RollbackGame", "step", "(III)I"⟩, 7), (⟨"RollbackGame", "load", "(I)V"⟩, 7), (⟨"RollbackGame", "go", "(II)V"⟩, 7), (⟨"RollbackGame", "strike", "(IIZ)V"⟩, 7), (⟨"RollbackGame", "pack", "()I"⟩, 7), (⟨"RollbackGame", "use", "(III)I"⟩, 7), (⟨"RollbackGame", "guess", "(II)I"⟩, 7), (⟨"RollbackGame", "firstMissing", "(I)I"⟩, 7), (⟨"RollbackGameModel", "player", "(I)Z"⟩, 6), (⟨"RollbackGameModel", "frame", "(I)Z"⟩, 6), (⟨"RollbackGameModel", "picture", "(I)I"⟩, 6), (⟨"RollbackGameModel", "play", "(I)V"⟩, 6), (⟨"RollbackGameModel", "over", "()Z"⟩, 6), (⟨"RollbackGameModel", "step", "(I)V"⟩, 6), (⟨"RollbackGameModel", "used", "(II)I"⟩, 6)]
theorem lw_r1 : ∀ q ∈ lw_privs_1, lw_okq q := List.forall_mem_cons.mpr ⟨lw_p0, List.forall_mem_cons.mpr ⟨lw_p1, List.forall_mem_cons.mpr ⟨lw_p2, List.forall_mem_cons.mpr ⟨lw_p3, List.forall_mem_cons.mpr ⟨lw_p4, List.forall_mem_cons.mpr ⟨lw_p5, List.forall_mem_cons.mpr ⟨lw_p6, List.forall_mem_cons.mpr ⟨lw_p7, List.forall_mem_cons.mpr ⟨lw_p8, List.forall_mem_cons.mpr ⟨lw_p9, List.forall_mem_cons.mpr ⟨lw_p10, List.forall_mem_cons.mpr ⟨lw_p11, List.forall_mem_cons.mpr ⟨lw_p12, List.forall_mem_cons.mpr ⟨lw_p13, List.forall_mem_cons.mpr ⟨lw_p14, List.forall_mem_cons.mpr ⟨lw_p15, fun _ h => absurd h List.not_mem_nil⟩⟩⟩⟩⟩⟩⟩⟩⟩⟩⟩⟩⟩⟩⟩⟩
theorem lw_p16 : lw_okq (⟨"RollbackGameModel", "walk", "(II)V"⟩, 6) := ⟨⟨by decide +kernel, by decide +kernel⟩, lw_t1 (List.mem_of_getElem? (i := 136) rfl), lw_t1 (List.mem_of_getElem? (i := 193) rfl), lw_t1 (List.mem_of_getElem? (i := 194) rfl)⟩
def lw_privs_2 : List (MethodName × Nat) := [(⟨"RollbackGameModel", "walk", "(II)V"⟩, 6)]
theorem lw_r2 : ∀ q ∈ lw_privs_2, lw_okq q := List.forall_mem_cons.mpr ⟨lw_p16, fun _ h => absurd h List.not_mem_nil⟩
def lw_privs : List (MethodName × Nat) := lw_privs_1 ++ (lw_privs_2)
def lw_tbl : List Cond := k2_sels lw_privs ++ tables_1
theorem lw_privs_ok : ∀ q ∈ lw_privs, lw_okq q := by
  show ∀ q ∈ lw_privs_1 ++ (lw_privs_2), lw_okq q
  exact List.forall_mem_append.mpr ⟨lw_r1, lw_r2⟩
-- ===== ONE list of words for every method: the tables' words that hold all through a run =====
def lw_all : List Cond := lw_tbl.filter goodWord
/-- a word of the tables by its place: claim/WORDS.tsv -/
theorem lw_w {w : Cond} (i : Nat) (h : lw_tbl[i]? = some w) (g : goodWord w = true) : w ∈ lw_all := List.mem_filter.mpr ⟨List.mem_of_getElem? h, g⟩
theorem lw_all_tbl {w : Cond} (h : w ∈ lw_all) : w ∈ lw_tbl := (List.mem_filter.mp h).1
theorem lw_self : GoodIn lw_all lw_all := fun w h => ⟨h, good_of_word (List.mem_filter.mp h).2⟩
/-- a class's field words, by their places -/
theorem lw_in (ws : List Cond) (ps : List Nat) (hp : ws = ps.filterMap (fun i => lw_tbl[i]?)) (hg : ws.all goodWord = true) : ∀ w ∈ ws, w ∈ lw_all := by
  intro w h
  have h1 := List.all_eq_true.mp hg w h
  rw [hp] at h
  obtain ⟨i, -, hi⟩ := List.mem_filterMap.mp h
  exact lw_w i hi h1
/-- the words of a contract for the method y with code b, L locals, answer r -/
abbrev ws_ (y : MethodName) (b : ByteArray) (L : Nat) (r : Option FieldType) : List Cond := Cond.code y b L r :: lw_all
theorem lw_meth {y : MethodName} {b : ByteArray} {L : Nat} {r : Option FieldType} (h : Cond.code y b L r ∈ lw_all) : GoodIn lw_all (ws_ y b L r) := by
  intro w hw
  rcases List.mem_cons.mp hw with e | e
  · rw [e]
    exact lw_self _ h
  · exact lw_self _ e
theorem lw_app {a c : List Cond} (ha : ∀ w ∈ a, w ∈ lw_all) (hc : GoodIn lw_all c) : GoodIn lw_all (a ++ c) := by
  intro w hw
  rcases List.mem_append.mp hw with e | e
  · exact lw_self w (ha w e)
  · exact hc w e
/-- what a call through an object asks: cwV n hts (lw_V ..) -/
theorem lw_V {own : String} {idx : Nat} {C : String} {y : MethodName} {b : ByteArray} {L : Nat} {r : Option FieldType} (h1 : Cond.methodLink own idx y ∈ lw_all) (h2 : Cond.instanceMethod y ∈ lw_all) (h3 : Cond.selects C y y ∈ lw_all) (h4 : Cond.initialized C ∈ lw_all) (h5 : Cond.code y b L r ∈ lw_all) : GoodIn lw_all (wsV own idx C y (ws_ y b L r)) := by
  refine lw_app ?_ (lw_meth h5)
  intro w hw
  simp only [List.mem_cons, List.not_mem_nil, or_false] at hw
  rcases hw with e | e | e | e
  · rw [e]; exact h1
  · rw [e]; exact h2
  · rw [e]; exact h3
  · rw [e]; exact h4
/-- what a static call asks: va_cwS n hts (lw_S ..) -/
theorem lw_S {own : String} {idx : Nat} {y : MethodName} {b : ByteArray} {L : Nat} {r : Option FieldType} (h1 : Cond.methodLink own idx y ∈ lw_all) (h2 : Cond.static y ∈ lw_all) (h3 : Cond.initialized y.cls ∈ lw_all) (h4 : Cond.code y b L r ∈ lw_all) : GoodIn lw_all (va_wsS own idx y (ws_ y b L r)) := by
  refine lw_app ?_ (lw_meth h4)
  intro w hw
  simp only [List.mem_cons, List.not_mem_nil, or_false] at hw
  rcases hw with e | e | e
  · rw [e]; exact h1
  · rw [e]; exact h2
  · rw [e]; exact h3
/-- the words of a contract for a method WITH HANDLERS (hh: its table) -/
abbrev wsW_ (y : MethodName) (b : ByteArray) (L : Nat) (r : Option FieldType) (hh : List (Nat × Nat × Nat × Nat)) : List Cond := Cond.codeWith y b L r hh :: lw_all
theorem lw_methW {y : MethodName} {b : ByteArray} {L : Nat} {r : Option FieldType} {hh : List (Nat × Nat × Nat × Nat)} (h : Cond.codeWith y b L r hh ∈ lw_all) : GoodIn lw_all (wsW_ y b L r hh) := by
  intro w hw
  rcases List.mem_cons.mp hw with e | e
  · rw [e]
    exact lw_self _ h
  · exact lw_self _ e
/-- any list of words by their places (lw_in), good -/
theorem lw_good {ws : List Cond} (h : ∀ w ∈ ws, w ∈ lw_all) : GoodIn lw_all ws := fun w hw => lw_self w (h w hw)
/-- what a call of a method with handlers asks: vx_cwVW n hts (lw_VW ..), vx_cwSW n hts (lw_SW ..) -/
theorem lw_VW {own : String} {idx : Nat} {C : String} {y : MethodName} {b : ByteArray} {L : Nat} {r : Option FieldType} {hh : List (Nat × Nat × Nat × Nat)} (h1 : Cond.methodLink own idx y ∈ lw_all) (h2 : Cond.instanceMethod y ∈ lw_all) (h3 : Cond.selects C y y ∈ lw_all) (h4 : Cond.initialized C ∈ lw_all) (h5 : Cond.codeWith y b L r hh ∈ lw_all) : GoodIn lw_all (wsV own idx C y (wsW_ y b L r hh)) := by
  refine lw_app ?_ (lw_methW h5)
  intro w hw
  simp only [List.mem_cons, List.not_mem_nil, or_false] at hw
  rcases hw with e | e | e | e
  · rw [e]; exact h1
  · rw [e]; exact h2
  · rw [e]; exact h3
  · rw [e]; exact h4
theorem lw_SW {own : String} {idx : Nat} {y : MethodName} {b : ByteArray} {L : Nat} {r : Option FieldType} {hh : List (Nat × Nat × Nat × Nat)} (h1 : Cond.methodLink own idx y ∈ lw_all) (h2 : Cond.static y ∈ lw_all) (h3 : Cond.initialized y.cls ∈ lw_all) (h4 : Cond.codeWith y b L r hh ∈ lw_all) : GoodIn lw_all (va_wsS own idx y (wsW_ y b L r hh)) := by
  refine lw_app ?_ (lw_methW h4)
  intro w hw
  simp only [List.mem_cons, List.not_mem_nil, or_false] at hw
  rcases hw with e | e | e
  · rw [e]; exact h1
  · rw [e]; exact h2
  · rw [e]; exact h3
/-- a word by its place in its run of the tables -/
theorem lw_at {r : List Cond} (hr : ∀ w ∈ r, w ∈ lw_tbl) {w : Cond} (i : Nat) (h : r[i]? = some w) : w ∈ lw_tbl := hr w (List.mem_of_getElem? h)
theorem lw_g {w : Cond} (h : w ∈ lw_tbl) (g : goodWord w = true) : w ∈ lw_all := List.mem_filter.mpr ⟨h, g⟩
theorem lw_ms : ∀ w ∈ k2_sels lw_privs, w ∈ lw_tbl := fun w h => show w ∈ k2_sels lw_privs ++ tables_1 from List.mem_append_left _ h
theorem lw_m1 : ∀ w ∈ tables_1_1, w ∈ lw_tbl := fun w h => show w ∈ k2_sels lw_privs ++ tables_1 from List.mem_append_right (k2_sels lw_privs) (show w ∈ tables_1 from List.mem_append_left _ h)
theorem lw_m2 : ∀ w ∈ tables_1_2, w ∈ lw_tbl := fun w h => show w ∈ k2_sels lw_privs ++ tables_1 from List.mem_append_right (k2_sels lw_privs) (show w ∈ tables_1 from List.mem_append_right _ h)
theorem qs0 : (Cond.selects "RollbackGame" ⟨"RollbackGame", "replay", "(II)I"⟩ ⟨"RollbackGame", "replay", "(II)I"⟩) ∈ lw_all := lw_g (lw_at lw_ms 0 rfl) rfl
theorem qs1 : (Cond.selects "RollbackGame" ⟨"RollbackGame", "step", "(III)I"⟩ ⟨"RollbackGame", "step", "(III)I"⟩) ∈ lw_all := lw_g (lw_at lw_ms 1 rfl) rfl
theorem qs2 : (Cond.selects "RollbackGame" ⟨"RollbackGame", "load", "(I)V"⟩ ⟨"RollbackGame", "load", "(I)V"⟩) ∈ lw_all := lw_g (lw_at lw_ms 2 rfl) rfl
theorem qs3 : (Cond.selects "RollbackGame" ⟨"RollbackGame", "go", "(II)V"⟩ ⟨"RollbackGame", "go", "(II)V"⟩) ∈ lw_all := lw_g (lw_at lw_ms 3 rfl) rfl
theorem qs4 : (Cond.selects "RollbackGame" ⟨"RollbackGame", "strike", "(IIZ)V"⟩ ⟨"RollbackGame", "strike", "(IIZ)V"⟩) ∈ lw_all := lw_g (lw_at lw_ms 4 rfl) rfl
theorem qs5 : (Cond.selects "RollbackGame" ⟨"RollbackGame", "pack", "()I"⟩ ⟨"RollbackGame", "pack", "()I"⟩) ∈ lw_all := lw_g (lw_at lw_ms 5 rfl) rfl
theorem qs6 : (Cond.selects "RollbackGame" ⟨"RollbackGame", "use", "(III)I"⟩ ⟨"RollbackGame", "use", "(III)I"⟩) ∈ lw_all := lw_g (lw_at lw_ms 6 rfl) rfl
theorem qs7 : (Cond.selects "RollbackGame" ⟨"RollbackGame", "guess", "(II)I"⟩ ⟨"RollbackGame", "guess", "(II)I"⟩) ∈ lw_all := lw_g (lw_at lw_ms 7 rfl) rfl
theorem qs8 : (Cond.selects "RollbackGame" ⟨"RollbackGame", "firstMissing", "(I)I"⟩ ⟨"RollbackGame", "firstMissing", "(I)I"⟩) ∈ lw_all := lw_g (lw_at lw_ms 8 rfl) rfl
theorem qs9 : (Cond.selects "RollbackGameModel" ⟨"RollbackGameModel", "player", "(I)Z"⟩ ⟨"RollbackGameModel", "player", "(I)Z"⟩) ∈ lw_all := lw_g (lw_at lw_ms 9 rfl) rfl
theorem qs10 : (Cond.selects "RollbackGameModel" ⟨"RollbackGameModel", "frame", "(I)Z"⟩ ⟨"RollbackGameModel", "frame", "(I)Z"⟩) ∈ lw_all := lw_g (lw_at lw_ms 10 rfl) rfl
theorem qs11 : (Cond.selects "RollbackGameModel" ⟨"RollbackGameModel", "picture", "(I)I"⟩ ⟨"RollbackGameModel", "picture", "(I)I"⟩) ∈ lw_all := lw_g (lw_at lw_ms 11 rfl) rfl
theorem qs12 : (Cond.selects "RollbackGameModel" ⟨"RollbackGameModel", "play", "(I)V"⟩ ⟨"RollbackGameModel", "play", "(I)V"⟩) ∈ lw_all := lw_g (lw_at lw_ms 12 rfl) rfl
theorem qs13 : (Cond.selects "RollbackGameModel" ⟨"RollbackGameModel", "over", "()Z"⟩ ⟨"RollbackGameModel", "over", "()Z"⟩) ∈ lw_all := lw_g (lw_at lw_ms 13 rfl) rfl
theorem qs14 : (Cond.selects "RollbackGameModel" ⟨"RollbackGameModel", "step", "(I)V"⟩ ⟨"RollbackGameModel", "step", "(I)V"⟩) ∈ lw_all := lw_g (lw_at lw_ms 14 rfl) rfl
theorem qs15 : (Cond.selects "RollbackGameModel" ⟨"RollbackGameModel", "used", "(II)I"⟩ ⟨"RollbackGameModel", "used", "(II)I"⟩) ∈ lw_all := lw_g (lw_at lw_ms 15 rfl) rfl
theorem qs16 : (Cond.selects "RollbackGameModel" ⟨"RollbackGameModel", "walk", "(II)V"⟩ ⟨"RollbackGameModel", "walk", "(II)V"⟩) ∈ lw_all := lw_g (lw_at lw_ms 16 rfl) rfl
end
section
/-! java/lang/Object -/
set_option maxRecDepth 100000
def RJ0 : String := "java/lang/Object"
abbrev cJ0_init : ByteArray := object_method_1_code
def yJ0_init : MethodName := ⟨RJ0, "<init>", "()V"⟩
theorem dJ0_init_0 : decode cJ0_init 0 = .ok (.return_, 1) := by decide +kernel
theorem q26 : (Jvm.Cond.instanceMethod ({ cls := "java/lang/Object", name := "<init>", desc := "()V" } : Jvm.MethodName)) ∈ lw_all := lw_g (lw_at lw_m1 9 rfl) rfl
theorem q27 : (Jvm.Cond.code ({ cls := "java/lang/Object", name := "<init>", desc := "()V" } : Jvm.MethodName) object_method_1_code (1 : Nat) (Option.none : Option Jvm.ClassFile.FieldType)) ∈ lw_all := lw_g (lw_at lw_m1 10 rfl) rfl
theorem q78 : (Jvm.Cond.arrayClass Jvm.ClassFile.FieldType.boolean) ∈ lw_all := lw_g (lw_at lw_m1 61 rfl) rfl
set_option maxRecDepth 100000
theorem q79 : (Jvm.Cond.arrayClass Jvm.ClassFile.FieldType.byte) ∈ lw_all := lw_g (lw_at lw_m1 62 rfl) rfl
theorem q80 : (Jvm.Cond.arrayClass Jvm.ClassFile.FieldType.int) ∈ lw_all := lw_g (lw_at lw_m1 63 rfl) rfl
/-! RollbackGame -/
set_option maxRecDepth 100000
def RX0 : String := "RollbackGame"
def TX0 : u_T := fun k => match k with
  | 0 => ("RollbackGame", "arrived", "[Z", true)
  | 1 => ("RollbackGame", "used", "[B", true)
  | 2 => ("RollbackGame", "saved", "[I", true)
  | 3 => ("RollbackGame", "playedCount", "I", false)
  | 4 => ("RollbackGame", "places", "[B", true)
  | 5 => ("RollbackGame", "points", "[B", true)
  | _ => ("RollbackGame", "pauses", "[B", true)
def tyX0 : Nat → FieldType := fun k => match k with
  | 0 => .array .boolean
  | 1 => .array .byte
  | 2 => .array .int
  | 3 => .int
  | 4 => .array .byte
  | 5 => .array .byte
  | _ => .array .byte
abbrev wsX00 : List Cond := u_ws RX0 TX0 7
theorem nmX0 : ∀ a, a < 7 → ∀ b, b < 7 → a ≠ b → (TX0 a).2.1 ≠ (TX0 b).2.1 := by decide +kernel
theorem tyX0_ok : ∀ k, k < 7 → parseFieldDescriptor (TX0 k).2.2.1 = some (tyX0 k) := by decide +kernel
abbrev cX0_init : ByteArray := prog_1_method_1_code
def yX0_init : MethodName := ⟨RX0, "<init>", "()V"⟩
theorem dX0_init_0 : decode cX0_init 0 = .ok (.aload_n 0, 1) := by decide +kernel
theorem dX0_init_1 : decode cX0_init 1 = .ok (.invokespecial 1, 3) := by decide +kernel
theorem dX0_init_4 : decode cX0_init 4 = .ok (.aload_n 0, 1) := by decide +kernel
theorem dX0_init_5 : decode cX0_init 5 = .ok (.bipush 80, 2) := by decide +kernel
theorem dX0_init_7 : decode cX0_init 7 = .ok (.newarray .boolean, 2) := by decide +kernel
theorem dX0_init_9 : decode cX0_init 9 = .ok (.putfield 7, 3) := by decide +kernel
theorem dX0_init_12 : decode cX0_init 12 = .ok (.aload_n 0, 1) := by decide +kernel
theorem dX0_init_13 : decode cX0_init 13 = .ok (.bipush 80, 2) := by decide +kernel
theorem dX0_init_15 : decode cX0_init 15 = .ok (.newarray .byte, 2) := by decide +kernel
theorem dX0_init_17 : decode cX0_init 17 = .ok (.putfield 13, 3) := by decide +kernel
theorem dX0_init_20 : decode cX0_init 20 = .ok (.aload_n 0, 1) := by decide +kernel
theorem dX0_init_21 : decode cX0_init 21 = .ok (.bipush 41, 2) := by decide +kernel
theorem dX0_init_23 : decode cX0_init 23 = .ok (.newarray .int, 2) := by decide +kernel
theorem dX0_init_25 : decode cX0_init 25 = .ok (.putfield 17, 3) := by decide +kernel
theorem dX0_init_28 : decode cX0_init 28 = .ok (.aload_n 0, 1) := by decide +kernel
theorem dX0_init_29 : decode cX0_init 29 = .ok (.iconst 2, 1) := by decide +kernel
theorem dX0_init_30 : decode cX0_init 30 = .ok (.newarray .byte, 2) := by decide +kernel
theorem dX0_init_32 : decode cX0_init 32 = .ok (.putfield 21, 3) := by decide +kernel
theorem dX0_init_35 : decode cX0_init 35 = .ok (.aload_n 0, 1) := by decide +kernel
theorem dX0_init_36 : decode cX0_init 36 = .ok (.iconst 2, 1) := by decide +kernel
theorem dX0_init_37 : decode cX0_init 37 = .ok (.newarray .byte, 2) := by decide +kernel
theorem dX0_init_39 : decode cX0_init 39 = .ok (.putfield 24, 3) := by decide +kernel
theorem dX0_init_42 : decode cX0_init 42 = .ok (.aload_n 0, 1) := by decide +kernel
theorem dX0_init_43 : decode cX0_init 43 = .ok (.iconst 2, 1) := by decide +kernel
theorem dX0_init_44 : decode cX0_init 44 = .ok (.newarray .byte, 2) := by decide +kernel
theorem dX0_init_46 : decode cX0_init 46 = .ok (.putfield 27, 3) := by decide +kernel
theorem dX0_init_49 : decode cX0_init 49 = .ok (.aload_n 0, 1) := by decide +kernel
theorem dX0_init_50 : decode cX0_init 50 = .ok (.getfield 17, 3) := by decide +kernel
theorem dX0_init_53 : decode cX0_init 53 = .ok (.iconst 0, 1) := by decide +kernel
theorem dX0_init_54 : decode cX0_init 54 = .ok (.sipush 5572, 3) := by decide +kernel
theorem dX0_init_57 : decode cX0_init 57 = .ok (.iastore, 1) := by decide +kernel
theorem dX0_init_58 : decode cX0_init 58 = .ok (.aload_n 0, 1) := by decide +kernel
theorem dX0_init_59 : decode cX0_init 59 = .ok (.iconst 0, 1) := by decide +kernel
theorem dX0_init_60 : decode cX0_init 60 = .ok (.bipush 40, 2) := by decide +kernel
theorem dX0_init_62 : decode cX0_init 62 = .ok (.invokevirtual 30, 3) := by decide +kernel
theorem dX0_init_65 : decode cX0_init 65 = .ok (.pop, 1) := by decide +kernel
theorem dX0_init_66 : decode cX0_init 66 = .ok (.return_, 1) := by decide +kernel
abbrev cX0_replay : ByteArray := prog_1_method_12_code
def yX0_replay : MethodName := ⟨RX0, "replay", "(II)I"⟩
theorem dX0_replay_0 : decode cX0_replay 0 = .ok (.iconst 0, 1) := by decide +kernel
theorem dX0_replay_1 : decode cX0_replay 1 = .ok (.istore_n 3, 1) := by decide +kernel
theorem dX0_replay_2 : decode cX0_replay 2 = .ok (.iconst 1, 1) := by decide +kernel
theorem dX0_replay_3 : decode cX0_replay 3 = .ok (.istore 4, 2) := by decide +kernel
theorem dX0_replay_5 : decode cX0_replay 5 = .ok (.iload_n 1, 1) := by decide +kernel
theorem dX0_replay_6 : decode cX0_replay 6 = .ok (.istore 5, 2) := by decide +kernel
theorem dX0_replay_8 : decode cX0_replay 8 = .ok (.iload 5, 2) := by decide +kernel
theorem dX0_replay_10 : decode cX0_replay 10 = .ok (.bipush 40, 2) := by decide +kernel
theorem dX0_replay_12 : decode cX0_replay 12 = .ok (.if_icmp .ge 106, 3) := by decide +kernel
theorem dX0_replay_15 : decode cX0_replay 15 = .ok (.iload 5, 2) := by decide +kernel
theorem dX0_replay_17 : decode cX0_replay 17 = .ok (.iload_n 2, 1) := by decide +kernel
theorem dX0_replay_18 : decode cX0_replay 18 = .ok (.if_icmp .lt 8, 3) := by decide +kernel
theorem dX0_replay_21 : decode cX0_replay 21 = .ok (.iload 4, 2) := by decide +kernel
theorem dX0_replay_23 : decode cX0_replay 23 = .ok (.ifCond .eq 95, 3) := by decide +kernel
theorem dX0_replay_26 : decode cX0_replay 26 = .ok (.aload_n 0, 1) := by decide +kernel
theorem dX0_replay_27 : decode cX0_replay 27 = .ok (.aload_n 0, 1) := by decide +kernel
theorem dX0_replay_28 : decode cX0_replay 28 = .ok (.getfield 17, 3) := by decide +kernel
theorem dX0_replay_31 : decode cX0_replay 31 = .ok (.iload 5, 2) := by decide +kernel
theorem dX0_replay_33 : decode cX0_replay 33 = .ok (.iaload, 1) := by decide +kernel
theorem dX0_replay_34 : decode cX0_replay 34 = .ok (.aload_n 0, 1) := by decide +kernel
theorem dX0_replay_35 : decode cX0_replay 35 = .ok (.getfield 13, 3) := by decide +kernel
theorem dX0_replay_38 : decode cX0_replay 38 = .ok (.iload 5, 2) := by decide +kernel
theorem dX0_replay_40 : decode cX0_replay 40 = .ok (.baload, 1) := by decide +kernel
theorem dX0_replay_41 : decode cX0_replay 41 = .ok (.aload_n 0, 1) := by decide +kernel
theorem dX0_replay_42 : decode cX0_replay 42 = .ok (.getfield 13, 3) := by decide +kernel
theorem dX0_replay_45 : decode cX0_replay 45 = .ok (.bipush 40, 2) := by decide +kernel
theorem dX0_replay_47 : decode cX0_replay 47 = .ok (.iload 5, 2) := by decide +kernel
theorem dX0_replay_49 : decode cX0_replay 49 = .ok (.iadd, 1) := by decide +kernel
theorem dX0_replay_50 : decode cX0_replay 50 = .ok (.baload, 1) := by decide +kernel
theorem dX0_replay_51 : decode cX0_replay 51 = .ok (.invokevirtual 58, 3) := by decide +kernel
theorem dX0_replay_54 : decode cX0_replay 54 = .ok (.istore 6, 2) := by decide +kernel
theorem dX0_replay_56 : decode cX0_replay 56 = .ok (.iload 6, 2) := by decide +kernel
theorem dX0_replay_58 : decode cX0_replay 58 = .ok (.aload_n 0, 1) := by decide +kernel
theorem dX0_replay_59 : decode cX0_replay 59 = .ok (.getfield 17, 3) := by decide +kernel
theorem dX0_replay_62 : decode cX0_replay 62 = .ok (.iload 5, 2) := by decide +kernel
theorem dX0_replay_64 : decode cX0_replay 64 = .ok (.iconst 1, 1) := by decide +kernel
theorem dX0_replay_65 : decode cX0_replay 65 = .ok (.iadd, 1) := by decide +kernel
theorem dX0_replay_66 : decode cX0_replay 66 = .ok (.iaload, 1) := by decide +kernel
theorem dX0_replay_67 : decode cX0_replay 67 = .ok (.if_icmp .eq 7, 3) := by decide +kernel
theorem dX0_replay_70 : decode cX0_replay 70 = .ok (.iconst 1, 1) := by decide +kernel
theorem dX0_replay_71 : decode cX0_replay 71 = .ok (.goto 4, 3) := by decide +kernel
theorem dX0_replay_74 : decode cX0_replay 74 = .ok (.iconst 0, 1) := by decide +kernel
theorem dX0_replay_75 : decode cX0_replay 75 = .ok (.istore 4, 2) := by decide +kernel
theorem dX0_replay_77 : decode cX0_replay 77 = .ok (.iload_n 3, 1) := by decide +kernel
theorem dX0_replay_78 : decode cX0_replay 78 = .ok (.iload 4, 2) := by decide +kernel
theorem dX0_replay_80 : decode cX0_replay 80 = .ok (.ifCond .eq 18, 3) := by decide +kernel
theorem dX0_replay_83 : decode cX0_replay 83 = .ok (.iload 5, 2) := by decide +kernel
theorem dX0_replay_85 : decode cX0_replay 85 = .ok (.iconst 1, 1) := by decide +kernel
theorem dX0_replay_86 : decode cX0_replay 86 = .ok (.iadd, 1) := by decide +kernel
theorem dX0_replay_87 : decode cX0_replay 87 = .ok (.aload_n 0, 1) := by decide +kernel
theorem dX0_replay_88 : decode cX0_replay 88 = .ok (.getfield 62, 3) := by decide +kernel
theorem dX0_replay_91 : decode cX0_replay 91 = .ok (.if_icmp .gt 7, 3) := by decide +kernel
theorem dX0_replay_94 : decode cX0_replay 94 = .ok (.iconst 1, 1) := by decide +kernel
theorem dX0_replay_95 : decode cX0_replay 95 = .ok (.goto 4, 3) := by decide +kernel
theorem dX0_replay_98 : decode cX0_replay 98 = .ok (.iconst 0, 1) := by decide +kernel
theorem dX0_replay_99 : decode cX0_replay 99 = .ok (.iadd, 1) := by decide +kernel
theorem dX0_replay_100 : decode cX0_replay 100 = .ok (.istore_n 3, 1) := by decide +kernel
theorem dX0_replay_101 : decode cX0_replay 101 = .ok (.aload_n 0, 1) := by decide +kernel
theorem dX0_replay_102 : decode cX0_replay 102 = .ok (.getfield 17, 3) := by decide +kernel
theorem dX0_replay_105 : decode cX0_replay 105 = .ok (.iload 5, 2) := by decide +kernel
theorem dX0_replay_107 : decode cX0_replay 107 = .ok (.iconst 1, 1) := by decide +kernel
theorem dX0_replay_108 : decode cX0_replay 108 = .ok (.iadd, 1) := by decide +kernel
theorem dX0_replay_109 : decode cX0_replay 109 = .ok (.iload 6, 2) := by decide +kernel
theorem dX0_replay_111 : decode cX0_replay 111 = .ok (.iastore, 1) := by decide +kernel
theorem dX0_replay_112 : decode cX0_replay 112 = .ok (.iinc 5 1, 3) := by decide +kernel
theorem dX0_replay_115 : decode cX0_replay 115 = .ok (.goto (-107), 3) := by decide +kernel
theorem dX0_replay_118 : decode cX0_replay 118 = .ok (.iload_n 3, 1) := by decide +kernel
theorem dX0_replay_119 : decode cX0_replay 119 = .ok (.ireturn, 1) := by decide +kernel
abbrev cX0_step : ByteArray := prog_1_method_7_code
def yX0_step : MethodName := ⟨RX0, "step", "(III)I"⟩
theorem dX0_step_0 : decode cX0_step 0 = .ok (.iload_n 1, 1) := by decide +kernel
theorem dX0_step_1 : decode cX0_step 1 = .ok (.invokestatic 35, 3) := by decide +kernel
theorem dX0_step_4 : decode cX0_step 4 = .ok (.ifCond .eq 5, 3) := by decide +kernel
theorem dX0_step_7 : decode cX0_step 7 = .ok (.iload_n 1, 1) := by decide +kernel
theorem dX0_step_8 : decode cX0_step 8 = .ok (.ireturn, 1) := by decide +kernel
theorem dX0_step_9 : decode cX0_step 9 = .ok (.aload_n 0, 1) := by decide +kernel
theorem dX0_step_10 : decode cX0_step 10 = .ok (.iload_n 1, 1) := by decide +kernel
theorem dX0_step_11 : decode cX0_step 11 = .ok (.invokevirtual 39, 3) := by decide +kernel
theorem dX0_step_14 : decode cX0_step 14 = .ok (.aload_n 0, 1) := by decide +kernel
theorem dX0_step_15 : decode cX0_step 15 = .ok (.getfield 27, 3) := by decide +kernel
theorem dX0_step_18 : decode cX0_step 18 = .ok (.iconst 0, 1) := by decide +kernel
theorem dX0_step_19 : decode cX0_step 19 = .ok (.baload, 1) := by decide +kernel
theorem dX0_step_20 : decode cX0_step 20 = .ok (.ifCond .le 7, 3) := by decide +kernel
theorem dX0_step_23 : decode cX0_step 23 = .ok (.iconst (-1), 1) := by decide +kernel
theorem dX0_step_24 : decode cX0_step 24 = .ok (.goto 4, 3) := by decide +kernel
theorem dX0_step_27 : decode cX0_step 27 = .ok (.iload_n 2, 1) := by decide +kernel
theorem dX0_step_28 : decode cX0_step 28 = .ok (.istore 4, 2) := by decide +kernel
theorem dX0_step_30 : decode cX0_step 30 = .ok (.aload_n 0, 1) := by decide +kernel
theorem dX0_step_31 : decode cX0_step 31 = .ok (.getfield 27, 3) := by decide +kernel
theorem dX0_step_34 : decode cX0_step 34 = .ok (.iconst 1, 1) := by decide +kernel
theorem dX0_step_35 : decode cX0_step 35 = .ok (.baload, 1) := by decide +kernel
theorem dX0_step_36 : decode cX0_step 36 = .ok (.ifCond .le 7, 3) := by decide +kernel
theorem dX0_step_39 : decode cX0_step 39 = .ok (.iconst (-1), 1) := by decide +kernel
theorem dX0_step_40 : decode cX0_step 40 = .ok (.goto 4, 3) := by decide +kernel
theorem dX0_step_43 : decode cX0_step 43 = .ok (.iload_n 3, 1) := by decide +kernel
theorem dX0_step_44 : decode cX0_step 44 = .ok (.istore 5, 2) := by decide +kernel
theorem dX0_step_46 : decode cX0_step 46 = .ok (.aload_n 0, 1) := by decide +kernel
theorem dX0_step_47 : decode cX0_step 47 = .ok (.getfield 27, 3) := by decide +kernel
theorem dX0_step_50 : decode cX0_step 50 = .ok (.iconst 0, 1) := by decide +kernel
theorem dX0_step_51 : decode cX0_step 51 = .ok (.aload_n 0, 1) := by decide +kernel
theorem dX0_step_52 : decode cX0_step 52 = .ok (.getfield 27, 3) := by decide +kernel
theorem dX0_step_55 : decode cX0_step 55 = .ok (.iconst 0, 1) := by decide +kernel
theorem dX0_step_56 : decode cX0_step 56 = .ok (.baload, 1) := by decide +kernel
theorem dX0_step_57 : decode cX0_step 57 = .ok (.ifCond .le 14, 3) := by decide +kernel
theorem dX0_step_60 : decode cX0_step 60 = .ok (.aload_n 0, 1) := by decide +kernel
theorem dX0_step_61 : decode cX0_step 61 = .ok (.getfield 27, 3) := by decide +kernel
theorem dX0_step_64 : decode cX0_step 64 = .ok (.iconst 0, 1) := by decide +kernel
theorem dX0_step_65 : decode cX0_step 65 = .ok (.baload, 1) := by decide +kernel
theorem dX0_step_66 : decode cX0_step 66 = .ok (.iconst 1, 1) := by decide +kernel
theorem dX0_step_67 : decode cX0_step 67 = .ok (.isub, 1) := by decide +kernel
theorem dX0_step_68 : decode cX0_step 68 = .ok (.goto 4, 3) := by decide +kernel
theorem dX0_step_71 : decode cX0_step 71 = .ok (.iconst 0, 1) := by decide +kernel
theorem dX0_step_72 : decode cX0_step 72 = .ok (.i2b, 1) := by decide +kernel
theorem dX0_step_73 : decode cX0_step 73 = .ok (.bastore, 1) := by decide +kernel
theorem dX0_step_74 : decode cX0_step 74 = .ok (.aload_n 0, 1) := by decide +kernel
theorem dX0_step_75 : decode cX0_step 75 = .ok (.getfield 27, 3) := by decide +kernel
theorem dX0_step_78 : decode cX0_step 78 = .ok (.iconst 1, 1) := by decide +kernel
theorem dX0_step_79 : decode cX0_step 79 = .ok (.aload_n 0, 1) := by decide +kernel
theorem dX0_step_80 : decode cX0_step 80 = .ok (.getfield 27, 3) := by decide +kernel
theorem dX0_step_83 : decode cX0_step 83 = .ok (.iconst 1, 1) := by decide +kernel
theorem dX0_step_84 : decode cX0_step 84 = .ok (.baload, 1) := by decide +kernel
theorem dX0_step_85 : decode cX0_step 85 = .ok (.ifCond .le 14, 3) := by decide +kernel
theorem dX0_step_88 : decode cX0_step 88 = .ok (.aload_n 0, 1) := by decide +kernel
theorem dX0_step_89 : decode cX0_step 89 = .ok (.getfield 27, 3) := by decide +kernel
theorem dX0_step_92 : decode cX0_step 92 = .ok (.iconst 1, 1) := by decide +kernel
theorem dX0_step_93 : decode cX0_step 93 = .ok (.baload, 1) := by decide +kernel
theorem dX0_step_94 : decode cX0_step 94 = .ok (.iconst 1, 1) := by decide +kernel
theorem dX0_step_95 : decode cX0_step 95 = .ok (.isub, 1) := by decide +kernel
theorem dX0_step_96 : decode cX0_step 96 = .ok (.goto 4, 3) := by decide +kernel
theorem dX0_step_99 : decode cX0_step 99 = .ok (.iconst 0, 1) := by decide +kernel
theorem dX0_step_100 : decode cX0_step 100 = .ok (.i2b, 1) := by decide +kernel
theorem dX0_step_101 : decode cX0_step 101 = .ok (.bastore, 1) := by decide +kernel
theorem dX0_step_102 : decode cX0_step 102 = .ok (.aload_n 0, 1) := by decide +kernel
theorem dX0_step_103 : decode cX0_step 103 = .ok (.iconst 0, 1) := by decide +kernel
theorem dX0_step_104 : decode cX0_step 104 = .ok (.iload 4, 2) := by decide +kernel
theorem dX0_step_106 : decode cX0_step 106 = .ok (.invokevirtual 43, 3) := by decide +kernel
theorem dX0_step_109 : decode cX0_step 109 = .ok (.aload_n 0, 1) := by decide +kernel
theorem dX0_step_110 : decode cX0_step 110 = .ok (.iconst 1, 1) := by decide +kernel
theorem dX0_step_111 : decode cX0_step 111 = .ok (.iload 5, 2) := by decide +kernel
theorem dX0_step_113 : decode cX0_step 113 = .ok (.invokevirtual 43, 3) := by decide +kernel
theorem dX0_step_116 : decode cX0_step 116 = .ok (.aload_n 0, 1) := by decide +kernel
theorem dX0_step_117 : decode cX0_step 117 = .ok (.getfield 21, 3) := by decide +kernel
theorem dX0_step_120 : decode cX0_step 120 = .ok (.iconst 0, 1) := by decide +kernel
theorem dX0_step_121 : decode cX0_step 121 = .ok (.baload, 1) := by decide +kernel
theorem dX0_step_122 : decode cX0_step 122 = .ok (.aload_n 0, 1) := by decide +kernel
theorem dX0_step_123 : decode cX0_step 123 = .ok (.getfield 21, 3) := by decide +kernel
theorem dX0_step_126 : decode cX0_step 126 = .ok (.iconst 1, 1) := by decide +kernel
theorem dX0_step_127 : decode cX0_step 127 = .ok (.baload, 1) := by decide +kernel
theorem dX0_step_128 : decode cX0_step 128 = .ok (.isub, 1) := by decide +kernel
theorem dX0_step_129 : decode cX0_step 129 = .ok (.istore 6, 2) := by decide +kernel
theorem dX0_step_131 : decode cX0_step 131 = .ok (.iload 6, 2) := by decide +kernel
theorem dX0_step_133 : decode cX0_step 133 = .ok (.iconst (-1), 1) := by decide +kernel
theorem dX0_step_134 : decode cX0_step 134 = .ok (.if_icmp .lt 13, 3) := by decide +kernel
theorem dX0_step_137 : decode cX0_step 137 = .ok (.iload 6, 2) := by decide +kernel
theorem dX0_step_139 : decode cX0_step 139 = .ok (.iconst 1, 1) := by decide +kernel
theorem dX0_step_140 : decode cX0_step 140 = .ok (.if_icmp .gt 7, 3) := by decide +kernel
theorem dX0_step_143 : decode cX0_step 143 = .ok (.iconst 1, 1) := by decide +kernel
theorem dX0_step_144 : decode cX0_step 144 = .ok (.goto 4, 3) := by decide +kernel
theorem dX0_step_147 : decode cX0_step 147 = .ok (.iconst 0, 1) := by decide +kernel
theorem dX0_step_148 : decode cX0_step 148 = .ok (.istore 7, 2) := by decide +kernel
theorem dX0_step_150 : decode cX0_step 150 = .ok (.aload_n 0, 1) := by decide +kernel
theorem dX0_step_151 : decode cX0_step 151 = .ok (.iconst 0, 1) := by decide +kernel
theorem dX0_step_152 : decode cX0_step 152 = .ok (.iload 4, 2) := by decide +kernel
theorem dX0_step_154 : decode cX0_step 154 = .ok (.iload 7, 2) := by decide +kernel
theorem dX0_step_156 : decode cX0_step 156 = .ok (.invokevirtual 47, 3) := by decide +kernel
theorem dX0_step_159 : decode cX0_step 159 = .ok (.aload_n 0, 1) := by decide +kernel
theorem dX0_step_160 : decode cX0_step 160 = .ok (.iconst 1, 1) := by decide +kernel
theorem dX0_step_161 : decode cX0_step 161 = .ok (.iload 5, 2) := by decide +kernel
theorem dX0_step_163 : decode cX0_step 163 = .ok (.iload 7, 2) := by decide +kernel
theorem dX0_step_165 : decode cX0_step 165 = .ok (.invokevirtual 47, 3) := by decide +kernel
theorem dX0_step_168 : decode cX0_step 168 = .ok (.aload_n 0, 1) := by decide +kernel
theorem dX0_step_169 : decode cX0_step 169 = .ok (.invokevirtual 51, 3) := by decide +kernel
theorem dX0_step_172 : decode cX0_step 172 = .ok (.ireturn, 1) := by decide +kernel
abbrev cX0_isOver : ByteArray := prog_1_method_6_code
def yX0_isOver : MethodName := ⟨RX0, "isOver", "(I)Z"⟩
theorem dX0_isOver_0 : decode cX0_isOver 0 = .ok (.iload_n 0, 1) := by decide +kernel
theorem dX0_isOver_1 : decode cX0_isOver 1 = .ok (.bipush 100, 2) := by decide +kernel
theorem dX0_isOver_3 : decode cX0_isOver 3 = .ok (.idiv, 1) := by decide +kernel
theorem dX0_isOver_4 : decode cX0_isOver 4 = .ok (.bipush 10, 2) := by decide +kernel
theorem dX0_isOver_6 : decode cX0_isOver 6 = .ok (.irem, 1) := by decide +kernel
theorem dX0_isOver_7 : decode cX0_isOver 7 = .ok (.ifCond .eq 14, 3) := by decide +kernel
theorem dX0_isOver_10 : decode cX0_isOver 10 = .ok (.iload_n 0, 1) := by decide +kernel
theorem dX0_isOver_11 : decode cX0_isOver 11 = .ok (.sipush 1000, 3) := by decide +kernel
theorem dX0_isOver_14 : decode cX0_isOver 14 = .ok (.idiv, 1) := by decide +kernel
theorem dX0_isOver_15 : decode cX0_isOver 15 = .ok (.bipush 10, 2) := by decide +kernel
theorem dX0_isOver_17 : decode cX0_isOver 17 = .ok (.irem, 1) := by decide +kernel
theorem dX0_isOver_18 : decode cX0_isOver 18 = .ok (.ifCond .ne 7, 3) := by decide +kernel
theorem dX0_isOver_21 : decode cX0_isOver 21 = .ok (.iconst 1, 1) := by decide +kernel
theorem dX0_isOver_22 : decode cX0_isOver 22 = .ok (.goto 4, 3) := by decide +kernel
theorem dX0_isOver_25 : decode cX0_isOver 25 = .ok (.iconst 0, 1) := by decide +kernel
theorem dX0_isOver_26 : decode cX0_isOver 26 = .ok (.ireturn, 1) := by decide +kernel
abbrev cX0_load : ByteArray := prog_1_method_4_code
def yX0_load : MethodName := ⟨RX0, "load", "(I)V"⟩
theorem dX0_load_0 : decode cX0_load 0 = .ok (.aload_n 0, 1) := by decide +kernel
theorem dX0_load_1 : decode cX0_load 1 = .ok (.getfield 21, 3) := by decide +kernel
theorem dX0_load_4 : decode cX0_load 4 = .ok (.iconst 0, 1) := by decide +kernel
theorem dX0_load_5 : decode cX0_load 5 = .ok (.iload_n 1, 1) := by decide +kernel
theorem dX0_load_6 : decode cX0_load 6 = .ok (.bipush 10, 2) := by decide +kernel
theorem dX0_load_8 : decode cX0_load 8 = .ok (.irem, 1) := by decide +kernel
theorem dX0_load_9 : decode cX0_load 9 = .ok (.i2b, 1) := by decide +kernel
theorem dX0_load_10 : decode cX0_load 10 = .ok (.bastore, 1) := by decide +kernel
theorem dX0_load_11 : decode cX0_load 11 = .ok (.aload_n 0, 1) := by decide +kernel
theorem dX0_load_12 : decode cX0_load 12 = .ok (.getfield 21, 3) := by decide +kernel
theorem dX0_load_15 : decode cX0_load 15 = .ok (.iconst 1, 1) := by decide +kernel
theorem dX0_load_16 : decode cX0_load 16 = .ok (.iload_n 1, 1) := by decide +kernel
theorem dX0_load_17 : decode cX0_load 17 = .ok (.bipush 10, 2) := by decide +kernel
theorem dX0_load_19 : decode cX0_load 19 = .ok (.idiv, 1) := by decide +kernel
theorem dX0_load_20 : decode cX0_load 20 = .ok (.bipush 10, 2) := by decide +kernel
theorem dX0_load_22 : decode cX0_load 22 = .ok (.irem, 1) := by decide +kernel
theorem dX0_load_23 : decode cX0_load 23 = .ok (.i2b, 1) := by decide +kernel
theorem dX0_load_24 : decode cX0_load 24 = .ok (.bastore, 1) := by decide +kernel
theorem dX0_load_25 : decode cX0_load 25 = .ok (.aload_n 0, 1) := by decide +kernel
theorem dX0_load_26 : decode cX0_load 26 = .ok (.getfield 24, 3) := by decide +kernel
theorem dX0_load_29 : decode cX0_load 29 = .ok (.iconst 0, 1) := by decide +kernel
theorem dX0_load_30 : decode cX0_load 30 = .ok (.iload_n 1, 1) := by decide +kernel
theorem dX0_load_31 : decode cX0_load 31 = .ok (.bipush 100, 2) := by decide +kernel
theorem dX0_load_33 : decode cX0_load 33 = .ok (.idiv, 1) := by decide +kernel
theorem dX0_load_34 : decode cX0_load 34 = .ok (.bipush 10, 2) := by decide +kernel
theorem dX0_load_36 : decode cX0_load 36 = .ok (.irem, 1) := by decide +kernel
theorem dX0_load_37 : decode cX0_load 37 = .ok (.i2b, 1) := by decide +kernel
theorem dX0_load_38 : decode cX0_load 38 = .ok (.bastore, 1) := by decide +kernel
theorem dX0_load_39 : decode cX0_load 39 = .ok (.aload_n 0, 1) := by decide +kernel
theorem dX0_load_40 : decode cX0_load 40 = .ok (.getfield 24, 3) := by decide +kernel
theorem dX0_load_43 : decode cX0_load 43 = .ok (.iconst 1, 1) := by decide +kernel
theorem dX0_load_44 : decode cX0_load 44 = .ok (.iload_n 1, 1) := by decide +kernel
theorem dX0_load_45 : decode cX0_load 45 = .ok (.sipush 1000, 3) := by decide +kernel
theorem dX0_load_48 : decode cX0_load 48 = .ok (.idiv, 1) := by decide +kernel
theorem dX0_load_49 : decode cX0_load 49 = .ok (.bipush 10, 2) := by decide +kernel
theorem dX0_load_51 : decode cX0_load 51 = .ok (.irem, 1) := by decide +kernel
theorem dX0_load_52 : decode cX0_load 52 = .ok (.i2b, 1) := by decide +kernel
theorem dX0_load_53 : decode cX0_load 53 = .ok (.bastore, 1) := by decide +kernel
theorem dX0_load_54 : decode cX0_load 54 = .ok (.aload_n 0, 1) := by decide +kernel
theorem dX0_load_55 : decode cX0_load 55 = .ok (.getfield 27, 3) := by decide +kernel
theorem dX0_load_58 : decode cX0_load 58 = .ok (.iconst 0, 1) := by decide +kernel
theorem dX0_load_59 : decode cX0_load 59 = .ok (.iload_n 1, 1) := by decide +kernel
theorem dX0_load_60 : decode cX0_load 60 = .ok (.sipush 10000, 3) := by decide +kernel
theorem dX0_load_63 : decode cX0_load 63 = .ok (.idiv, 1) := by decide +kernel
theorem dX0_load_64 : decode cX0_load 64 = .ok (.bipush 10, 2) := by decide +kernel
theorem dX0_load_66 : decode cX0_load 66 = .ok (.irem, 1) := by decide +kernel
theorem dX0_load_67 : decode cX0_load 67 = .ok (.i2b, 1) := by decide +kernel
theorem dX0_load_68 : decode cX0_load 68 = .ok (.bastore, 1) := by decide +kernel
theorem dX0_load_69 : decode cX0_load 69 = .ok (.aload_n 0, 1) := by decide +kernel
theorem dX0_load_70 : decode cX0_load 70 = .ok (.getfield 27, 3) := by decide +kernel
theorem dX0_load_73 : decode cX0_load 73 = .ok (.iconst 1, 1) := by decide +kernel
theorem dX0_load_74 : decode cX0_load 74 = .ok (.iload_n 1, 1) := by decide +kernel
theorem dX0_load_75 : decode cX0_load 75 = .ok (.ldc 34, 2) := by decide +kernel
theorem dX0_load_77 : decode cX0_load 77 = .ok (.idiv, 1) := by decide +kernel
theorem dX0_load_78 : decode cX0_load 78 = .ok (.i2b, 1) := by decide +kernel
theorem dX0_load_79 : decode cX0_load 79 = .ok (.bastore, 1) := by decide +kernel
theorem dX0_load_80 : decode cX0_load 80 = .ok (.return_, 1) := by decide +kernel
abbrev cX0_go : ByteArray := prog_1_method_8_code
def yX0_go : MethodName := ⟨RX0, "go", "(II)V"⟩
theorem dX0_go_0 : decode cX0_go 0 = .ok (.aload_n 0, 1) := by decide +kernel
theorem dX0_go_1 : decode cX0_go 1 = .ok (.getfield 21, 3) := by decide +kernel
theorem dX0_go_4 : decode cX0_go 4 = .ok (.iload_n 1, 1) := by decide +kernel
theorem dX0_go_5 : decode cX0_go 5 = .ok (.baload, 1) := by decide +kernel
theorem dX0_go_6 : decode cX0_go 6 = .ok (.istore_n 3, 1) := by decide +kernel
theorem dX0_go_7 : decode cX0_go 7 = .ok (.iload_n 2, 1) := by decide +kernel
theorem dX0_go_8 : decode cX0_go 8 = .ok (.iconst 1, 1) := by decide +kernel
theorem dX0_go_9 : decode cX0_go 9 = .ok (.if_icmp .ne 13, 3) := by decide +kernel
theorem dX0_go_12 : decode cX0_go 12 = .ok (.iload_n 3, 1) := by decide +kernel
theorem dX0_go_13 : decode cX0_go 13 = .ok (.ifCond .le 9, 3) := by decide +kernel
theorem dX0_go_16 : decode cX0_go 16 = .ok (.iinc 3 (-1), 3) := by decide +kernel
theorem dX0_go_19 : decode cX0_go 19 = .ok (.goto 17, 3) := by decide +kernel
theorem dX0_go_22 : decode cX0_go 22 = .ok (.iload_n 2, 1) := by decide +kernel
theorem dX0_go_23 : decode cX0_go 23 = .ok (.iconst 2, 1) := by decide +kernel
theorem dX0_go_24 : decode cX0_go 24 = .ok (.if_icmp .ne 12, 3) := by decide +kernel
theorem dX0_go_27 : decode cX0_go 27 = .ok (.iload_n 3, 1) := by decide +kernel
theorem dX0_go_28 : decode cX0_go 28 = .ok (.bipush 9, 2) := by decide +kernel
theorem dX0_go_30 : decode cX0_go 30 = .ok (.if_icmp .ge 6, 3) := by decide +kernel
theorem dX0_go_33 : decode cX0_go 33 = .ok (.iinc 3 1, 3) := by decide +kernel
theorem dX0_go_36 : decode cX0_go 36 = .ok (.iload_n 3, 1) := by decide +kernel
theorem dX0_go_37 : decode cX0_go 37 = .ok (.aload_n 0, 1) := by decide +kernel
theorem dX0_go_38 : decode cX0_go 38 = .ok (.getfield 21, 3) := by decide +kernel
theorem dX0_go_41 : decode cX0_go 41 = .ok (.iconst 1, 1) := by decide +kernel
theorem dX0_go_42 : decode cX0_go 42 = .ok (.iload_n 1, 1) := by decide +kernel
theorem dX0_go_43 : decode cX0_go 43 = .ok (.isub, 1) := by decide +kernel
theorem dX0_go_44 : decode cX0_go 44 = .ok (.baload, 1) := by decide +kernel
theorem dX0_go_45 : decode cX0_go 45 = .ok (.if_icmp .eq 11, 3) := by decide +kernel
theorem dX0_go_48 : decode cX0_go 48 = .ok (.aload_n 0, 1) := by decide +kernel
theorem dX0_go_49 : decode cX0_go 49 = .ok (.getfield 21, 3) := by decide +kernel
theorem dX0_go_52 : decode cX0_go 52 = .ok (.iload_n 1, 1) := by decide +kernel
theorem dX0_go_53 : decode cX0_go 53 = .ok (.iload_n 3, 1) := by decide +kernel
theorem dX0_go_54 : decode cX0_go 54 = .ok (.i2b, 1) := by decide +kernel
theorem dX0_go_55 : decode cX0_go 55 = .ok (.bastore, 1) := by decide +kernel
theorem dX0_go_56 : decode cX0_go 56 = .ok (.return_, 1) := by decide +kernel
abbrev cX0_strike : ByteArray := prog_1_method_9_code
def yX0_strike : MethodName := ⟨RX0, "strike", "(IIZ)V"⟩
theorem dX0_strike_0 : decode cX0_strike 0 = .ok (.iload_n 2, 1) := by decide +kernel
theorem dX0_strike_1 : decode cX0_strike 1 = .ok (.iconst 3, 1) := by decide +kernel
theorem dX0_strike_2 : decode cX0_strike 2 = .ok (.if_icmp .ne 55, 3) := by decide +kernel
theorem dX0_strike_5 : decode cX0_strike 5 = .ok (.aload_n 0, 1) := by decide +kernel
theorem dX0_strike_6 : decode cX0_strike 6 = .ok (.getfield 27, 3) := by decide +kernel
theorem dX0_strike_9 : decode cX0_strike 9 = .ok (.iload_n 1, 1) := by decide +kernel
theorem dX0_strike_10 : decode cX0_strike 10 = .ok (.iconst 2, 1) := by decide +kernel
theorem dX0_strike_11 : decode cX0_strike 11 = .ok (.bastore, 1) := by decide +kernel
theorem dX0_strike_12 : decode cX0_strike 12 = .ok (.aload_n 0, 1) := by decide +kernel
theorem dX0_strike_13 : decode cX0_strike 13 = .ok (.getfield 24, 3) := by decide +kernel
theorem dX0_strike_16 : decode cX0_strike 16 = .ok (.iconst 1, 1) := by decide +kernel
theorem dX0_strike_17 : decode cX0_strike 17 = .ok (.iload_n 1, 1) := by decide +kernel
theorem dX0_strike_18 : decode cX0_strike 18 = .ok (.isub, 1) := by decide +kernel
theorem dX0_strike_19 : decode cX0_strike 19 = .ok (.iload_n 3, 1) := by decide +kernel
theorem dX0_strike_20 : decode cX0_strike 20 = .ok (.ifCond .eq 27, 3) := by decide +kernel
theorem dX0_strike_23 : decode cX0_strike 23 = .ok (.aload_n 0, 1) := by decide +kernel
theorem dX0_strike_24 : decode cX0_strike 24 = .ok (.getfield 24, 3) := by decide +kernel
theorem dX0_strike_27 : decode cX0_strike 27 = .ok (.iconst 1, 1) := by decide +kernel
theorem dX0_strike_28 : decode cX0_strike 28 = .ok (.iload_n 1, 1) := by decide +kernel
theorem dX0_strike_29 : decode cX0_strike 29 = .ok (.isub, 1) := by decide +kernel
theorem dX0_strike_30 : decode cX0_strike 30 = .ok (.baload, 1) := by decide +kernel
theorem dX0_strike_31 : decode cX0_strike 31 = .ok (.ifCond .le 16, 3) := by decide +kernel
theorem dX0_strike_34 : decode cX0_strike 34 = .ok (.aload_n 0, 1) := by decide +kernel
theorem dX0_strike_35 : decode cX0_strike 35 = .ok (.getfield 24, 3) := by decide +kernel
theorem dX0_strike_38 : decode cX0_strike 38 = .ok (.iconst 1, 1) := by decide +kernel
theorem dX0_strike_39 : decode cX0_strike 39 = .ok (.iload_n 1, 1) := by decide +kernel
theorem dX0_strike_40 : decode cX0_strike 40 = .ok (.isub, 1) := by decide +kernel
theorem dX0_strike_41 : decode cX0_strike 41 = .ok (.baload, 1) := by decide +kernel
theorem dX0_strike_42 : decode cX0_strike 42 = .ok (.iconst 1, 1) := by decide +kernel
theorem dX0_strike_43 : decode cX0_strike 43 = .ok (.isub, 1) := by decide +kernel
theorem dX0_strike_44 : decode cX0_strike 44 = .ok (.goto 11, 3) := by decide +kernel
theorem dX0_strike_47 : decode cX0_strike 47 = .ok (.aload_n 0, 1) := by decide +kernel
theorem dX0_strike_48 : decode cX0_strike 48 = .ok (.getfield 24, 3) := by decide +kernel
theorem dX0_strike_51 : decode cX0_strike 51 = .ok (.iconst 1, 1) := by decide +kernel
theorem dX0_strike_52 : decode cX0_strike 52 = .ok (.iload_n 1, 1) := by decide +kernel
theorem dX0_strike_53 : decode cX0_strike 53 = .ok (.isub, 1) := by decide +kernel
theorem dX0_strike_54 : decode cX0_strike 54 = .ok (.baload, 1) := by decide +kernel
theorem dX0_strike_55 : decode cX0_strike 55 = .ok (.i2b, 1) := by decide +kernel
theorem dX0_strike_56 : decode cX0_strike 56 = .ok (.bastore, 1) := by decide +kernel
theorem dX0_strike_57 : decode cX0_strike 57 = .ok (.return_, 1) := by decide +kernel
abbrev cX0_pack : ByteArray := prog_1_method_5_code
def yX0_pack : MethodName := ⟨RX0, "pack", "()I"⟩
theorem dX0_pack_0 : decode cX0_pack 0 = .ok (.aload_n 0, 1) := by decide +kernel
theorem dX0_pack_1 : decode cX0_pack 1 = .ok (.getfield 21, 3) := by decide +kernel
theorem dX0_pack_4 : decode cX0_pack 4 = .ok (.iconst 0, 1) := by decide +kernel
theorem dX0_pack_5 : decode cX0_pack 5 = .ok (.baload, 1) := by decide +kernel
theorem dX0_pack_6 : decode cX0_pack 6 = .ok (.bipush 10, 2) := by decide +kernel
theorem dX0_pack_8 : decode cX0_pack 8 = .ok (.aload_n 0, 1) := by decide +kernel
theorem dX0_pack_9 : decode cX0_pack 9 = .ok (.getfield 21, 3) := by decide +kernel
theorem dX0_pack_12 : decode cX0_pack 12 = .ok (.iconst 1, 1) := by decide +kernel
theorem dX0_pack_13 : decode cX0_pack 13 = .ok (.baload, 1) := by decide +kernel
theorem dX0_pack_14 : decode cX0_pack 14 = .ok (.imul, 1) := by decide +kernel
theorem dX0_pack_15 : decode cX0_pack 15 = .ok (.iadd, 1) := by decide +kernel
theorem dX0_pack_16 : decode cX0_pack 16 = .ok (.bipush 100, 2) := by decide +kernel
theorem dX0_pack_18 : decode cX0_pack 18 = .ok (.aload_n 0, 1) := by decide +kernel
theorem dX0_pack_19 : decode cX0_pack 19 = .ok (.getfield 24, 3) := by decide +kernel
theorem dX0_pack_22 : decode cX0_pack 22 = .ok (.iconst 0, 1) := by decide +kernel
theorem dX0_pack_23 : decode cX0_pack 23 = .ok (.baload, 1) := by decide +kernel
theorem dX0_pack_24 : decode cX0_pack 24 = .ok (.imul, 1) := by decide +kernel
theorem dX0_pack_25 : decode cX0_pack 25 = .ok (.iadd, 1) := by decide +kernel
theorem dX0_pack_26 : decode cX0_pack 26 = .ok (.sipush 1000, 3) := by decide +kernel
theorem dX0_pack_29 : decode cX0_pack 29 = .ok (.aload_n 0, 1) := by decide +kernel
theorem dX0_pack_30 : decode cX0_pack 30 = .ok (.getfield 24, 3) := by decide +kernel
theorem dX0_pack_33 : decode cX0_pack 33 = .ok (.iconst 1, 1) := by decide +kernel
theorem dX0_pack_34 : decode cX0_pack 34 = .ok (.baload, 1) := by decide +kernel
theorem dX0_pack_35 : decode cX0_pack 35 = .ok (.imul, 1) := by decide +kernel
theorem dX0_pack_36 : decode cX0_pack 36 = .ok (.iadd, 1) := by decide +kernel
theorem dX0_pack_37 : decode cX0_pack 37 = .ok (.sipush 10000, 3) := by decide +kernel
theorem dX0_pack_40 : decode cX0_pack 40 = .ok (.aload_n 0, 1) := by decide +kernel
theorem dX0_pack_41 : decode cX0_pack 41 = .ok (.getfield 27, 3) := by decide +kernel
theorem dX0_pack_44 : decode cX0_pack 44 = .ok (.iconst 0, 1) := by decide +kernel
theorem dX0_pack_45 : decode cX0_pack 45 = .ok (.baload, 1) := by decide +kernel
theorem dX0_pack_46 : decode cX0_pack 46 = .ok (.imul, 1) := by decide +kernel
theorem dX0_pack_47 : decode cX0_pack 47 = .ok (.iadd, 1) := by decide +kernel
theorem dX0_pack_48 : decode cX0_pack 48 = .ok (.ldc 34, 2) := by decide +kernel
theorem dX0_pack_50 : decode cX0_pack 50 = .ok (.aload_n 0, 1) := by decide +kernel
theorem dX0_pack_51 : decode cX0_pack 51 = .ok (.getfield 27, 3) := by decide +kernel
theorem dX0_pack_54 : decode cX0_pack 54 = .ok (.iconst 1, 1) := by decide +kernel
theorem dX0_pack_55 : decode cX0_pack 55 = .ok (.baload, 1) := by decide +kernel
theorem dX0_pack_56 : decode cX0_pack 56 = .ok (.imul, 1) := by decide +kernel
theorem dX0_pack_57 : decode cX0_pack 57 = .ok (.iadd, 1) := by decide +kernel
theorem dX0_pack_58 : decode cX0_pack 58 = .ok (.ireturn, 1) := by decide +kernel
abbrev cX0_arrive : ByteArray := prog_1_method_13_code
def yX0_arrive : MethodName := ⟨RX0, "arrive", "(III)I"⟩
theorem dX0_arrive_0 : decode cX0_arrive 0 = .ok (.iload_n 1, 1) := by decide +kernel
theorem dX0_arrive_1 : decode cX0_arrive 1 = .ok (.invokestatic 66, 3) := by decide +kernel
theorem dX0_arrive_4 : decode cX0_arrive 4 = .ok (.ifCond .eq 33, 3) := by decide +kernel
theorem dX0_arrive_7 : decode cX0_arrive 7 = .ok (.iload_n 2, 1) := by decide +kernel
theorem dX0_arrive_8 : decode cX0_arrive 8 = .ok (.invokestatic 69, 3) := by decide +kernel
theorem dX0_arrive_11 : decode cX0_arrive 11 = .ok (.ifCond .eq 26, 3) := by decide +kernel
theorem dX0_arrive_14 : decode cX0_arrive 14 = .ok (.iload_n 3, 1) := by decide +kernel
theorem dX0_arrive_15 : decode cX0_arrive 15 = .ok (.ifCond .lt 22, 3) := by decide +kernel
theorem dX0_arrive_18 : decode cX0_arrive 18 = .ok (.iload_n 3, 1) := by decide +kernel
theorem dX0_arrive_19 : decode cX0_arrive 19 = .ok (.iconst 3, 1) := by decide +kernel
theorem dX0_arrive_20 : decode cX0_arrive 20 = .ok (.if_icmp .gt 17, 3) := by decide +kernel
theorem dX0_arrive_23 : decode cX0_arrive 23 = .ok (.aload_n 0, 1) := by decide +kernel
theorem dX0_arrive_24 : decode cX0_arrive 24 = .ok (.getfield 7, 3) := by decide +kernel
theorem dX0_arrive_27 : decode cX0_arrive 27 = .ok (.iload_n 1, 1) := by decide +kernel
theorem dX0_arrive_28 : decode cX0_arrive 28 = .ok (.bipush 40, 2) := by decide +kernel
theorem dX0_arrive_30 : decode cX0_arrive 30 = .ok (.imul, 1) := by decide +kernel
theorem dX0_arrive_31 : decode cX0_arrive 31 = .ok (.iload_n 2, 1) := by decide +kernel
theorem dX0_arrive_32 : decode cX0_arrive 32 = .ok (.iadd, 1) := by decide +kernel
theorem dX0_arrive_33 : decode cX0_arrive 33 = .ok (.baload, 1) := by decide +kernel
theorem dX0_arrive_34 : decode cX0_arrive 34 = .ok (.ifCond .eq 5, 3) := by decide +kernel
theorem dX0_arrive_37 : decode cX0_arrive 37 = .ok (.iconst (-1), 1) := by decide +kernel
theorem dX0_arrive_38 : decode cX0_arrive 38 = .ok (.ireturn, 1) := by decide +kernel
theorem dX0_arrive_39 : decode cX0_arrive 39 = .ok (.aload_n 0, 1) := by decide +kernel
theorem dX0_arrive_40 : decode cX0_arrive 40 = .ok (.getfield 7, 3) := by decide +kernel
theorem dX0_arrive_43 : decode cX0_arrive 43 = .ok (.iload_n 1, 1) := by decide +kernel
theorem dX0_arrive_44 : decode cX0_arrive 44 = .ok (.bipush 40, 2) := by decide +kernel
theorem dX0_arrive_46 : decode cX0_arrive 46 = .ok (.imul, 1) := by decide +kernel
theorem dX0_arrive_47 : decode cX0_arrive 47 = .ok (.iload_n 2, 1) := by decide +kernel
theorem dX0_arrive_48 : decode cX0_arrive 48 = .ok (.iadd, 1) := by decide +kernel
theorem dX0_arrive_49 : decode cX0_arrive 49 = .ok (.iconst 1, 1) := by decide +kernel
theorem dX0_arrive_50 : decode cX0_arrive 50 = .ok (.bastore, 1) := by decide +kernel
theorem dX0_arrive_51 : decode cX0_arrive 51 = .ok (.aload_n 0, 1) := by decide +kernel
theorem dX0_arrive_52 : decode cX0_arrive 52 = .ok (.iload_n 1, 1) := by decide +kernel
theorem dX0_arrive_53 : decode cX0_arrive 53 = .ok (.iload_n 2, 1) := by decide +kernel
theorem dX0_arrive_54 : decode cX0_arrive 54 = .ok (.iload_n 3, 1) := by decide +kernel
theorem dX0_arrive_55 : decode cX0_arrive 55 = .ok (.invokevirtual 72, 3) := by decide +kernel
theorem dX0_arrive_58 : decode cX0_arrive 58 = .ok (.istore 4, 2) := by decide +kernel
theorem dX0_arrive_60 : decode cX0_arrive 60 = .ok (.iload 4, 2) := by decide +kernel
theorem dX0_arrive_62 : decode cX0_arrive 62 = .ok (.iload_n 2, 1) := by decide +kernel
theorem dX0_arrive_63 : decode cX0_arrive 63 = .ok (.if_icmp .le 13, 3) := by decide +kernel
theorem dX0_arrive_66 : decode cX0_arrive 66 = .ok (.aload_n 0, 1) := by decide +kernel
theorem dX0_arrive_67 : decode cX0_arrive 67 = .ok (.iload_n 2, 1) := by decide +kernel
theorem dX0_arrive_68 : decode cX0_arrive 68 = .ok (.iload 4, 2) := by decide +kernel
theorem dX0_arrive_70 : decode cX0_arrive 70 = .ok (.invokevirtual 30, 3) := by decide +kernel
theorem dX0_arrive_73 : decode cX0_arrive 73 = .ok (.goto 4, 3) := by decide +kernel
theorem dX0_arrive_76 : decode cX0_arrive 76 = .ok (.iconst 0, 1) := by decide +kernel
theorem dX0_arrive_77 : decode cX0_arrive 77 = .ok (.ireturn, 1) := by decide +kernel
abbrev cX0_isPlayer : ByteArray := prog_1_method_2_code
def yX0_isPlayer : MethodName := ⟨RX0, "isPlayer", "(I)Z"⟩
theorem dX0_isPlayer_0 : decode cX0_isPlayer 0 = .ok (.iload_n 0, 1) := by decide +kernel
theorem dX0_isPlayer_1 : decode cX0_isPlayer 1 = .ok (.ifCond .eq 8, 3) := by decide +kernel
theorem dX0_isPlayer_4 : decode cX0_isPlayer 4 = .ok (.iload_n 0, 1) := by decide +kernel
theorem dX0_isPlayer_5 : decode cX0_isPlayer 5 = .ok (.iconst 1, 1) := by decide +kernel
theorem dX0_isPlayer_6 : decode cX0_isPlayer 6 = .ok (.if_icmp .ne 7, 3) := by decide +kernel
theorem dX0_isPlayer_9 : decode cX0_isPlayer 9 = .ok (.iconst 1, 1) := by decide +kernel
theorem dX0_isPlayer_10 : decode cX0_isPlayer 10 = .ok (.goto 4, 3) := by decide +kernel
theorem dX0_isPlayer_13 : decode cX0_isPlayer 13 = .ok (.iconst 0, 1) := by decide +kernel
theorem dX0_isPlayer_14 : decode cX0_isPlayer 14 = .ok (.ireturn, 1) := by decide +kernel
abbrev cX0_isFrame : ByteArray := prog_1_method_3_code
def yX0_isFrame : MethodName := ⟨RX0, "isFrame", "(I)Z"⟩
theorem dX0_isFrame_0 : decode cX0_isFrame 0 = .ok (.iload_n 0, 1) := by decide +kernel
theorem dX0_isFrame_1 : decode cX0_isFrame 1 = .ok (.ifCond .lt 13, 3) := by decide +kernel
theorem dX0_isFrame_4 : decode cX0_isFrame 4 = .ok (.iload_n 0, 1) := by decide +kernel
theorem dX0_isFrame_5 : decode cX0_isFrame 5 = .ok (.bipush 40, 2) := by decide +kernel
theorem dX0_isFrame_7 : decode cX0_isFrame 7 = .ok (.if_icmp .ge 7, 3) := by decide +kernel
theorem dX0_isFrame_10 : decode cX0_isFrame 10 = .ok (.iconst 1, 1) := by decide +kernel
theorem dX0_isFrame_11 : decode cX0_isFrame 11 = .ok (.goto 4, 3) := by decide +kernel
theorem dX0_isFrame_14 : decode cX0_isFrame 14 = .ok (.iconst 0, 1) := by decide +kernel
theorem dX0_isFrame_15 : decode cX0_isFrame 15 = .ok (.ireturn, 1) := by decide +kernel
abbrev cX0_use : ByteArray := prog_1_method_11_code
def yX0_use : MethodName := ⟨RX0, "use", "(III)I"⟩
theorem dX0_use_0 : decode cX0_use 0 = .ok (.iload_n 1, 1) := by decide +kernel
theorem dX0_use_1 : decode cX0_use 1 = .ok (.bipush 40, 2) := by decide +kernel
theorem dX0_use_3 : decode cX0_use 3 = .ok (.imul, 1) := by decide +kernel
theorem dX0_use_4 : decode cX0_use 4 = .ok (.iload_n 2, 1) := by decide +kernel
theorem dX0_use_5 : decode cX0_use 5 = .ok (.iadd, 1) := by decide +kernel
theorem dX0_use_6 : decode cX0_use 6 = .ok (.istore 4, 2) := by decide +kernel
theorem dX0_use_8 : decode cX0_use 8 = .ok (.aload_n 0, 1) := by decide +kernel
theorem dX0_use_9 : decode cX0_use 9 = .ok (.getfield 13, 3) := by decide +kernel
theorem dX0_use_12 : decode cX0_use 12 = .ok (.iload 4, 2) := by decide +kernel
theorem dX0_use_14 : decode cX0_use 14 = .ok (.baload, 1) := by decide +kernel
theorem dX0_use_15 : decode cX0_use 15 = .ok (.iload_n 3, 1) := by decide +kernel
theorem dX0_use_16 : decode cX0_use 16 = .ok (.if_icmp .eq 9, 3) := by decide +kernel
theorem dX0_use_19 : decode cX0_use 19 = .ok (.iload_n 2, 1) := by decide +kernel
theorem dX0_use_20 : decode cX0_use 20 = .ok (.iconst 1, 1) := by decide +kernel
theorem dX0_use_21 : decode cX0_use 21 = .ok (.iadd, 1) := by decide +kernel
theorem dX0_use_22 : decode cX0_use 22 = .ok (.goto 4, 3) := by decide +kernel
theorem dX0_use_25 : decode cX0_use 25 = .ok (.iload_n 2, 1) := by decide +kernel
theorem dX0_use_26 : decode cX0_use 26 = .ok (.istore 5, 2) := by decide +kernel
theorem dX0_use_28 : decode cX0_use 28 = .ok (.aload_n 0, 1) := by decide +kernel
theorem dX0_use_29 : decode cX0_use 29 = .ok (.getfield 13, 3) := by decide +kernel
theorem dX0_use_32 : decode cX0_use 32 = .ok (.iload 4, 2) := by decide +kernel
theorem dX0_use_34 : decode cX0_use 34 = .ok (.iload_n 3, 1) := by decide +kernel
theorem dX0_use_35 : decode cX0_use 35 = .ok (.i2b, 1) := by decide +kernel
theorem dX0_use_36 : decode cX0_use 36 = .ok (.bastore, 1) := by decide +kernel
theorem dX0_use_37 : decode cX0_use 37 = .ok (.iload_n 2, 1) := by decide +kernel
theorem dX0_use_38 : decode cX0_use 38 = .ok (.iconst 1, 1) := by decide +kernel
theorem dX0_use_39 : decode cX0_use 39 = .ok (.iadd, 1) := by decide +kernel
theorem dX0_use_40 : decode cX0_use 40 = .ok (.istore 6, 2) := by decide +kernel
theorem dX0_use_42 : decode cX0_use 42 = .ok (.iload 6, 2) := by decide +kernel
theorem dX0_use_44 : decode cX0_use 44 = .ok (.bipush 40, 2) := by decide +kernel
theorem dX0_use_46 : decode cX0_use 46 = .ok (.if_icmp .ge 71, 3) := by decide +kernel
theorem dX0_use_49 : decode cX0_use 49 = .ok (.aload_n 0, 1) := by decide +kernel
theorem dX0_use_50 : decode cX0_use 50 = .ok (.getfield 7, 3) := by decide +kernel
theorem dX0_use_53 : decode cX0_use 53 = .ok (.iload_n 1, 1) := by decide +kernel
theorem dX0_use_54 : decode cX0_use 54 = .ok (.bipush 40, 2) := by decide +kernel
theorem dX0_use_56 : decode cX0_use 56 = .ok (.imul, 1) := by decide +kernel
theorem dX0_use_57 : decode cX0_use 57 = .ok (.iload 6, 2) := by decide +kernel
theorem dX0_use_59 : decode cX0_use 59 = .ok (.iadd, 1) := by decide +kernel
theorem dX0_use_60 : decode cX0_use 60 = .ok (.baload, 1) := by decide +kernel
theorem dX0_use_61 : decode cX0_use 61 = .ok (.ifCond .ne 56, 3) := by decide +kernel
theorem dX0_use_64 : decode cX0_use 64 = .ok (.aload_n 0, 1) := by decide +kernel
theorem dX0_use_65 : decode cX0_use 65 = .ok (.iload_n 1, 1) := by decide +kernel
theorem dX0_use_66 : decode cX0_use 66 = .ok (.iload 6, 2) := by decide +kernel
theorem dX0_use_68 : decode cX0_use 68 = .ok (.invokevirtual 55, 3) := by decide +kernel
theorem dX0_use_71 : decode cX0_use 71 = .ok (.istore 7, 2) := by decide +kernel
theorem dX0_use_73 : decode cX0_use 73 = .ok (.aload_n 0, 1) := by decide +kernel
theorem dX0_use_74 : decode cX0_use 74 = .ok (.getfield 13, 3) := by decide +kernel
theorem dX0_use_77 : decode cX0_use 77 = .ok (.iload_n 1, 1) := by decide +kernel
theorem dX0_use_78 : decode cX0_use 78 = .ok (.bipush 40, 2) := by decide +kernel
theorem dX0_use_80 : decode cX0_use 80 = .ok (.imul, 1) := by decide +kernel
theorem dX0_use_81 : decode cX0_use 81 = .ok (.iload 6, 2) := by decide +kernel
theorem dX0_use_83 : decode cX0_use 83 = .ok (.iadd, 1) := by decide +kernel
theorem dX0_use_84 : decode cX0_use 84 = .ok (.baload, 1) := by decide +kernel
theorem dX0_use_85 : decode cX0_use 85 = .ok (.iload 7, 2) := by decide +kernel
theorem dX0_use_87 : decode cX0_use 87 = .ok (.if_icmp .eq 24, 3) := by decide +kernel
theorem dX0_use_90 : decode cX0_use 90 = .ok (.aload_n 0, 1) := by decide +kernel
theorem dX0_use_91 : decode cX0_use 91 = .ok (.getfield 13, 3) := by decide +kernel
theorem dX0_use_94 : decode cX0_use 94 = .ok (.iload_n 1, 1) := by decide +kernel
theorem dX0_use_95 : decode cX0_use 95 = .ok (.bipush 40, 2) := by decide +kernel
theorem dX0_use_97 : decode cX0_use 97 = .ok (.imul, 1) := by decide +kernel
theorem dX0_use_98 : decode cX0_use 98 = .ok (.iload 6, 2) := by decide +kernel
theorem dX0_use_100 : decode cX0_use 100 = .ok (.iadd, 1) := by decide +kernel
theorem dX0_use_101 : decode cX0_use 101 = .ok (.iload 7, 2) := by decide +kernel
theorem dX0_use_103 : decode cX0_use 103 = .ok (.i2b, 1) := by decide +kernel
theorem dX0_use_104 : decode cX0_use 104 = .ok (.bastore, 1) := by decide +kernel
theorem dX0_use_105 : decode cX0_use 105 = .ok (.iload 6, 2) := by decide +kernel
theorem dX0_use_107 : decode cX0_use 107 = .ok (.iconst 1, 1) := by decide +kernel
theorem dX0_use_108 : decode cX0_use 108 = .ok (.iadd, 1) := by decide +kernel
theorem dX0_use_109 : decode cX0_use 109 = .ok (.istore 5, 2) := by decide +kernel
theorem dX0_use_111 : decode cX0_use 111 = .ok (.iinc 6 1, 3) := by decide +kernel
theorem dX0_use_114 : decode cX0_use 114 = .ok (.goto (-72), 3) := by decide +kernel
theorem dX0_use_117 : decode cX0_use 117 = .ok (.iload 5, 2) := by decide +kernel
theorem dX0_use_119 : decode cX0_use 119 = .ok (.ireturn, 1) := by decide +kernel
abbrev cX0_guess : ByteArray := prog_1_method_10_code
def yX0_guess : MethodName := ⟨RX0, "guess", "(II)I"⟩
theorem dX0_guess_0 : decode cX0_guess 0 = .ok (.iload_n 2, 1) := by decide +kernel
theorem dX0_guess_1 : decode cX0_guess 1 = .ok (.ifCond .ne 7, 3) := by decide +kernel
theorem dX0_guess_4 : decode cX0_guess 4 = .ok (.iconst 0, 1) := by decide +kernel
theorem dX0_guess_5 : decode cX0_guess 5 = .ok (.goto 16, 3) := by decide +kernel
theorem dX0_guess_8 : decode cX0_guess 8 = .ok (.aload_n 0, 1) := by decide +kernel
theorem dX0_guess_9 : decode cX0_guess 9 = .ok (.getfield 13, 3) := by decide +kernel
theorem dX0_guess_12 : decode cX0_guess 12 = .ok (.iload_n 1, 1) := by decide +kernel
theorem dX0_guess_13 : decode cX0_guess 13 = .ok (.bipush 40, 2) := by decide +kernel
theorem dX0_guess_15 : decode cX0_guess 15 = .ok (.imul, 1) := by decide +kernel
theorem dX0_guess_16 : decode cX0_guess 16 = .ok (.iload_n 2, 1) := by decide +kernel
theorem dX0_guess_17 : decode cX0_guess 17 = .ok (.iadd, 1) := by decide +kernel
theorem dX0_guess_18 : decode cX0_guess 18 = .ok (.iconst 1, 1) := by decide +kernel
theorem dX0_guess_19 : decode cX0_guess 19 = .ok (.isub, 1) := by decide +kernel
theorem dX0_guess_20 : decode cX0_guess 20 = .ok (.baload, 1) := by decide +kernel
theorem dX0_guess_21 : decode cX0_guess 21 = .ok (.istore_n 3, 1) := by decide +kernel
theorem dX0_guess_22 : decode cX0_guess 22 = .ok (.iload_n 3, 1) := by decide +kernel
theorem dX0_guess_23 : decode cX0_guess 23 = .ok (.iconst 3, 1) := by decide +kernel
theorem dX0_guess_24 : decode cX0_guess 24 = .ok (.if_icmp .ne 7, 3) := by decide +kernel
theorem dX0_guess_27 : decode cX0_guess 27 = .ok (.iconst 0, 1) := by decide +kernel
theorem dX0_guess_28 : decode cX0_guess 28 = .ok (.goto 4, 3) := by decide +kernel
theorem dX0_guess_31 : decode cX0_guess 31 = .ok (.iload_n 3, 1) := by decide +kernel
theorem dX0_guess_32 : decode cX0_guess 32 = .ok (.ireturn, 1) := by decide +kernel
abbrev cX0_tick : ByteArray := prog_1_method_14_code
def yX0_tick : MethodName := ⟨RX0, "tick", "()I"⟩
theorem dX0_tick_0 : decode cX0_tick 0 = .ok (.aload_n 0, 1) := by decide +kernel
theorem dX0_tick_1 : decode cX0_tick 1 = .ok (.getfield 62, 3) := by decide +kernel
theorem dX0_tick_4 : decode cX0_tick 4 = .ok (.bipush 40, 2) := by decide +kernel
theorem dX0_tick_6 : decode cX0_tick 6 = .ok (.if_icmp .lt 5, 3) := by decide +kernel
theorem dX0_tick_9 : decode cX0_tick 9 = .ok (.iconst (-1), 1) := by decide +kernel
theorem dX0_tick_10 : decode cX0_tick 10 = .ok (.ireturn, 1) := by decide +kernel
theorem dX0_tick_11 : decode cX0_tick 11 = .ok (.aload_n 0, 1) := by decide +kernel
theorem dX0_tick_12 : decode cX0_tick 12 = .ok (.dup, 1) := by decide +kernel
theorem dX0_tick_13 : decode cX0_tick 13 = .ok (.getfield 62, 3) := by decide +kernel
theorem dX0_tick_16 : decode cX0_tick 16 = .ok (.iconst 1, 1) := by decide +kernel
theorem dX0_tick_17 : decode cX0_tick 17 = .ok (.iadd, 1) := by decide +kernel
theorem dX0_tick_18 : decode cX0_tick 18 = .ok (.putfield 62, 3) := by decide +kernel
theorem dX0_tick_21 : decode cX0_tick 21 = .ok (.aload_n 0, 1) := by decide +kernel
theorem dX0_tick_22 : decode cX0_tick 22 = .ok (.getfield 62, 3) := by decide +kernel
theorem dX0_tick_25 : decode cX0_tick 25 = .ok (.ireturn, 1) := by decide +kernel
abbrev cX0_played : ByteArray := prog_1_method_15_code
def yX0_played : MethodName := ⟨RX0, "played", "()I"⟩
theorem dX0_played_0 : decode cX0_played 0 = .ok (.aload_n 0, 1) := by decide +kernel
theorem dX0_played_1 : decode cX0_played 1 = .ok (.getfield 62, 3) := by decide +kernel
theorem dX0_played_4 : decode cX0_played 4 = .ok (.ireturn, 1) := by decide +kernel
abbrev cX0_sure : ByteArray := prog_1_method_17_code
def yX0_sure : MethodName := ⟨RX0, "sure", "()I"⟩
theorem dX0_sure_0 : decode cX0_sure 0 = .ok (.aload_n 0, 1) := by decide +kernel
theorem dX0_sure_1 : decode cX0_sure 1 = .ok (.iconst 0, 1) := by decide +kernel
theorem dX0_sure_2 : decode cX0_sure 2 = .ok (.invokevirtual 75, 3) := by decide +kernel
theorem dX0_sure_5 : decode cX0_sure 5 = .ok (.istore_n 1, 1) := by decide +kernel
theorem dX0_sure_6 : decode cX0_sure 6 = .ok (.aload_n 0, 1) := by decide +kernel
theorem dX0_sure_7 : decode cX0_sure 7 = .ok (.iconst 1, 1) := by decide +kernel
theorem dX0_sure_8 : decode cX0_sure 8 = .ok (.invokevirtual 75, 3) := by decide +kernel
theorem dX0_sure_11 : decode cX0_sure 11 = .ok (.istore_n 2, 1) := by decide +kernel
theorem dX0_sure_12 : decode cX0_sure 12 = .ok (.iload_n 1, 1) := by decide +kernel
theorem dX0_sure_13 : decode cX0_sure 13 = .ok (.iload_n 2, 1) := by decide +kernel
theorem dX0_sure_14 : decode cX0_sure 14 = .ok (.if_icmp .ge 7, 3) := by decide +kernel
theorem dX0_sure_17 : decode cX0_sure 17 = .ok (.iload_n 1, 1) := by decide +kernel
theorem dX0_sure_18 : decode cX0_sure 18 = .ok (.goto 4, 3) := by decide +kernel
theorem dX0_sure_21 : decode cX0_sure 21 = .ok (.iload_n 2, 1) := by decide +kernel
theorem dX0_sure_22 : decode cX0_sure 22 = .ok (.ireturn, 1) := by decide +kernel
abbrev cX0_firstMissing : ByteArray := prog_1_method_16_code
def yX0_firstMissing : MethodName := ⟨RX0, "firstMissing", "(I)I"⟩
theorem dX0_firstMissing_0 : decode cX0_firstMissing 0 = .ok (.iconst 0, 1) := by decide +kernel
theorem dX0_firstMissing_1 : decode cX0_firstMissing 1 = .ok (.istore_n 2, 1) := by decide +kernel
theorem dX0_firstMissing_2 : decode cX0_firstMissing 2 = .ok (.iload_n 2, 1) := by decide +kernel
theorem dX0_firstMissing_3 : decode cX0_firstMissing 3 = .ok (.bipush 40, 2) := by decide +kernel
theorem dX0_firstMissing_5 : decode cX0_firstMissing 5 = .ok (.if_icmp .ge 23, 3) := by decide +kernel
theorem dX0_firstMissing_8 : decode cX0_firstMissing 8 = .ok (.aload_n 0, 1) := by decide +kernel
theorem dX0_firstMissing_9 : decode cX0_firstMissing 9 = .ok (.getfield 7, 3) := by decide +kernel
theorem dX0_firstMissing_12 : decode cX0_firstMissing 12 = .ok (.iload_n 1, 1) := by decide +kernel
theorem dX0_firstMissing_13 : decode cX0_firstMissing 13 = .ok (.bipush 40, 2) := by decide +kernel
theorem dX0_firstMissing_15 : decode cX0_firstMissing 15 = .ok (.imul, 1) := by decide +kernel
theorem dX0_firstMissing_16 : decode cX0_firstMissing 16 = .ok (.iload_n 2, 1) := by decide +kernel
theorem dX0_firstMissing_17 : decode cX0_firstMissing 17 = .ok (.iadd, 1) := by decide +kernel
theorem dX0_firstMissing_18 : decode cX0_firstMissing 18 = .ok (.baload, 1) := by decide +kernel
theorem dX0_firstMissing_19 : decode cX0_firstMissing 19 = .ok (.ifCond .eq 9, 3) := by decide +kernel
theorem dX0_firstMissing_22 : decode cX0_firstMissing 22 = .ok (.iinc 2 1, 3) := by decide +kernel
theorem dX0_firstMissing_25 : decode cX0_firstMissing 25 = .ok (.goto (-23), 3) := by decide +kernel
theorem dX0_firstMissing_28 : decode cX0_firstMissing 28 = .ok (.iload_n 2, 1) := by decide +kernel
theorem dX0_firstMissing_29 : decode cX0_firstMissing 29 = .ok (.ireturn, 1) := by decide +kernel
abbrev cX0_position : ByteArray := prog_1_method_18_code
def yX0_position : MethodName := ⟨RX0, "position", "(I)I"⟩
theorem dX0_position_0 : decode cX0_position 0 = .ok (.iload_n 1, 1) := by decide +kernel
theorem dX0_position_1 : decode cX0_position 1 = .ok (.invokestatic 66, 3) := by decide +kernel
theorem dX0_position_4 : decode cX0_position 4 = .ok (.ifCond .ne 5, 3) := by decide +kernel
theorem dX0_position_7 : decode cX0_position 7 = .ok (.iconst (-1), 1) := by decide +kernel
theorem dX0_position_8 : decode cX0_position 8 = .ok (.ireturn, 1) := by decide +kernel
theorem dX0_position_9 : decode cX0_position 9 = .ok (.aload_n 0, 1) := by decide +kernel
theorem dX0_position_10 : decode cX0_position 10 = .ok (.aload_n 0, 1) := by decide +kernel
theorem dX0_position_11 : decode cX0_position 11 = .ok (.getfield 17, 3) := by decide +kernel
theorem dX0_position_14 : decode cX0_position 14 = .ok (.aload_n 0, 1) := by decide +kernel
theorem dX0_position_15 : decode cX0_position 15 = .ok (.getfield 62, 3) := by decide +kernel
theorem dX0_position_18 : decode cX0_position 18 = .ok (.iaload, 1) := by decide +kernel
theorem dX0_position_19 : decode cX0_position 19 = .ok (.invokevirtual 39, 3) := by decide +kernel
theorem dX0_position_22 : decode cX0_position 22 = .ok (.aload_n 0, 1) := by decide +kernel
theorem dX0_position_23 : decode cX0_position 23 = .ok (.getfield 21, 3) := by decide +kernel
theorem dX0_position_26 : decode cX0_position 26 = .ok (.iload_n 1, 1) := by decide +kernel
theorem dX0_position_27 : decode cX0_position 27 = .ok (.baload, 1) := by decide +kernel
theorem dX0_position_28 : decode cX0_position 28 = .ok (.ireturn, 1) := by decide +kernel
abbrev cX0_strength : ByteArray := prog_1_method_19_code
def yX0_strength : MethodName := ⟨RX0, "strength", "(I)I"⟩
theorem dX0_strength_0 : decode cX0_strength 0 = .ok (.iload_n 1, 1) := by decide +kernel
theorem dX0_strength_1 : decode cX0_strength 1 = .ok (.invokestatic 66, 3) := by decide +kernel
theorem dX0_strength_4 : decode cX0_strength 4 = .ok (.ifCond .ne 5, 3) := by decide +kernel
theorem dX0_strength_7 : decode cX0_strength 7 = .ok (.iconst (-1), 1) := by decide +kernel
theorem dX0_strength_8 : decode cX0_strength 8 = .ok (.ireturn, 1) := by decide +kernel
theorem dX0_strength_9 : decode cX0_strength 9 = .ok (.aload_n 0, 1) := by decide +kernel
theorem dX0_strength_10 : decode cX0_strength 10 = .ok (.aload_n 0, 1) := by decide +kernel
theorem dX0_strength_11 : decode cX0_strength 11 = .ok (.getfield 17, 3) := by decide +kernel
theorem dX0_strength_14 : decode cX0_strength 14 = .ok (.aload_n 0, 1) := by decide +kernel
theorem dX0_strength_15 : decode cX0_strength 15 = .ok (.getfield 62, 3) := by decide +kernel
theorem dX0_strength_18 : decode cX0_strength 18 = .ok (.iaload, 1) := by decide +kernel
theorem dX0_strength_19 : decode cX0_strength 19 = .ok (.invokevirtual 39, 3) := by decide +kernel
theorem dX0_strength_22 : decode cX0_strength 22 = .ok (.aload_n 0, 1) := by decide +kernel
theorem dX0_strength_23 : decode cX0_strength 23 = .ok (.getfield 24, 3) := by decide +kernel
theorem dX0_strength_26 : decode cX0_strength 26 = .ok (.iload_n 1, 1) := by decide +kernel
theorem dX0_strength_27 : decode cX0_strength 27 = .ok (.baload, 1) := by decide +kernel
theorem dX0_strength_28 : decode cX0_strength 28 = .ok (.ireturn, 1) := by decide +kernel
abbrev cX0_pause : ByteArray := prog_1_method_20_code
def yX0_pause : MethodName := ⟨RX0, "pause", "(I)I"⟩
theorem dX0_pause_0 : decode cX0_pause 0 = .ok (.iload_n 1, 1) := by decide +kernel
theorem dX0_pause_1 : decode cX0_pause 1 = .ok (.invokestatic 66, 3) := by decide +kernel
theorem dX0_pause_4 : decode cX0_pause 4 = .ok (.ifCond .ne 5, 3) := by decide +kernel
theorem dX0_pause_7 : decode cX0_pause 7 = .ok (.iconst (-1), 1) := by decide +kernel
theorem dX0_pause_8 : decode cX0_pause 8 = .ok (.ireturn, 1) := by decide +kernel
theorem dX0_pause_9 : decode cX0_pause 9 = .ok (.aload_n 0, 1) := by decide +kernel
theorem dX0_pause_10 : decode cX0_pause 10 = .ok (.aload_n 0, 1) := by decide +kernel
theorem dX0_pause_11 : decode cX0_pause 11 = .ok (.getfield 17, 3) := by decide +kernel
theorem dX0_pause_14 : decode cX0_pause 14 = .ok (.aload_n 0, 1) := by decide +kernel
theorem dX0_pause_15 : decode cX0_pause 15 = .ok (.getfield 62, 3) := by decide +kernel
theorem dX0_pause_18 : decode cX0_pause 18 = .ok (.iaload, 1) := by decide +kernel
theorem dX0_pause_19 : decode cX0_pause 19 = .ok (.invokevirtual 39, 3) := by decide +kernel
theorem dX0_pause_22 : decode cX0_pause 22 = .ok (.aload_n 0, 1) := by decide +kernel
theorem dX0_pause_23 : decode cX0_pause 23 = .ok (.getfield 27, 3) := by decide +kernel
theorem dX0_pause_26 : decode cX0_pause 26 = .ok (.iload_n 1, 1) := by decide +kernel
theorem dX0_pause_27 : decode cX0_pause 27 = .ok (.baload, 1) := by decide +kernel
theorem dX0_pause_28 : decode cX0_pause 28 = .ok (.ireturn, 1) := by decide +kernel
abbrev cX0_shown : ByteArray := prog_1_method_21_code
def yX0_shown : MethodName := ⟨RX0, "shown", "(I)I"⟩
theorem dX0_shown_0 : decode cX0_shown 0 = .ok (.iload_n 1, 1) := by decide +kernel
theorem dX0_shown_1 : decode cX0_shown 1 = .ok (.ifCond .lt 9, 3) := by decide +kernel
theorem dX0_shown_4 : decode cX0_shown 4 = .ok (.iload_n 1, 1) := by decide +kernel
theorem dX0_shown_5 : decode cX0_shown 5 = .ok (.bipush 40, 2) := by decide +kernel
theorem dX0_shown_7 : decode cX0_shown 7 = .ok (.if_icmp .le 7, 3) := by decide +kernel
theorem dX0_shown_10 : decode cX0_shown 10 = .ok (.iconst (-1), 1) := by decide +kernel
theorem dX0_shown_11 : decode cX0_shown 11 = .ok (.goto 9, 3) := by decide +kernel
theorem dX0_shown_14 : decode cX0_shown 14 = .ok (.aload_n 0, 1) := by decide +kernel
theorem dX0_shown_15 : decode cX0_shown 15 = .ok (.getfield 17, 3) := by decide +kernel
theorem dX0_shown_18 : decode cX0_shown 18 = .ok (.iload_n 1, 1) := by decide +kernel
theorem dX0_shown_19 : decode cX0_shown 19 = .ok (.iaload, 1) := by decide +kernel
theorem dX0_shown_20 : decode cX0_shown 20 = .ok (.ireturn, 1) := by decide +kernel
abbrev cX0_move : ByteArray := prog_1_method_22_code
def yX0_move : MethodName := ⟨RX0, "move", "(II)I"⟩
theorem dX0_move_0 : decode cX0_move 0 = .ok (.iload_n 1, 1) := by decide +kernel
theorem dX0_move_1 : decode cX0_move 1 = .ok (.invokestatic 66, 3) := by decide +kernel
theorem dX0_move_4 : decode cX0_move 4 = .ok (.ifCond .eq 24, 3) := by decide +kernel
theorem dX0_move_7 : decode cX0_move 7 = .ok (.iload_n 2, 1) := by decide +kernel
theorem dX0_move_8 : decode cX0_move 8 = .ok (.invokestatic 69, 3) := by decide +kernel
theorem dX0_move_11 : decode cX0_move 11 = .ok (.ifCond .eq 17, 3) := by decide +kernel
theorem dX0_move_14 : decode cX0_move 14 = .ok (.aload_n 0, 1) := by decide +kernel
theorem dX0_move_15 : decode cX0_move 15 = .ok (.getfield 13, 3) := by decide +kernel
theorem dX0_move_18 : decode cX0_move 18 = .ok (.iload_n 1, 1) := by decide +kernel
theorem dX0_move_19 : decode cX0_move 19 = .ok (.bipush 40, 2) := by decide +kernel
theorem dX0_move_21 : decode cX0_move 21 = .ok (.imul, 1) := by decide +kernel
theorem dX0_move_22 : decode cX0_move 22 = .ok (.iload_n 2, 1) := by decide +kernel
theorem dX0_move_23 : decode cX0_move 23 = .ok (.iadd, 1) := by decide +kernel
theorem dX0_move_24 : decode cX0_move 24 = .ok (.baload, 1) := by decide +kernel
theorem dX0_move_25 : decode cX0_move 25 = .ok (.goto 4, 3) := by decide +kernel
theorem dX0_move_28 : decode cX0_move 28 = .ok (.iconst (-1), 1) := by decide +kernel
theorem dX0_move_29 : decode cX0_move 29 = .ok (.ireturn, 1) := by decide +kernel
abbrev cX0_missing : ByteArray := prog_1_method_23_code
def yX0_missing : MethodName := ⟨RX0, "missing", "(I)I"⟩
theorem dX0_missing_0 : decode cX0_missing 0 = .ok (.iload_n 1, 1) := by decide +kernel
theorem dX0_missing_1 : decode cX0_missing 1 = .ok (.invokestatic 66, 3) := by decide +kernel
theorem dX0_missing_4 : decode cX0_missing 4 = .ok (.ifCond .ne 5, 3) := by decide +kernel
theorem dX0_missing_7 : decode cX0_missing 7 = .ok (.iconst (-1), 1) := by decide +kernel
theorem dX0_missing_8 : decode cX0_missing 8 = .ok (.ireturn, 1) := by decide +kernel
theorem dX0_missing_9 : decode cX0_missing 9 = .ok (.aload_n 0, 1) := by decide +kernel
theorem dX0_missing_10 : decode cX0_missing 10 = .ok (.iload_n 1, 1) := by decide +kernel
theorem dX0_missing_11 : decode cX0_missing 11 = .ok (.invokevirtual 75, 3) := by decide +kernel
theorem dX0_missing_14 : decode cX0_missing 14 = .ok (.istore_n 2, 1) := by decide +kernel
theorem dX0_missing_15 : decode cX0_missing 15 = .ok (.iload_n 2, 1) := by decide +kernel
theorem dX0_missing_16 : decode cX0_missing 16 = .ok (.bipush 40, 2) := by decide +kernel
theorem dX0_missing_18 : decode cX0_missing 18 = .ok (.if_icmp .ge 7, 3) := by decide +kernel
theorem dX0_missing_21 : decode cX0_missing 21 = .ok (.iload_n 2, 1) := by decide +kernel
theorem dX0_missing_22 : decode cX0_missing 22 = .ok (.goto 5, 3) := by decide +kernel
theorem dX0_missing_25 : decode cX0_missing 25 = .ok (.bipush (-2), 2) := by decide +kernel
theorem dX0_missing_27 : decode cX0_missing 27 = .ok (.ireturn, 1) := by decide +kernel
abbrev cX0_winner : ByteArray := prog_1_method_24_code
def yX0_winner : MethodName := ⟨RX0, "winner", "(I)I"⟩
theorem dX0_winner_0 : decode cX0_winner 0 = .ok (.iload_n 1, 1) := by decide +kernel
theorem dX0_winner_1 : decode cX0_winner 1 = .ok (.ifCond .lt 9, 3) := by decide +kernel
theorem dX0_winner_4 : decode cX0_winner 4 = .ok (.iload_n 1, 1) := by decide +kernel
theorem dX0_winner_5 : decode cX0_winner 5 = .ok (.bipush 40, 2) := by decide +kernel
theorem dX0_winner_7 : decode cX0_winner 7 = .ok (.if_icmp .le 5, 3) := by decide +kernel
theorem dX0_winner_10 : decode cX0_winner 10 = .ok (.iconst (-1), 1) := by decide +kernel
theorem dX0_winner_11 : decode cX0_winner 11 = .ok (.ireturn, 1) := by decide +kernel
theorem dX0_winner_12 : decode cX0_winner 12 = .ok (.aload_n 0, 1) := by decide +kernel
theorem dX0_winner_13 : decode cX0_winner 13 = .ok (.getfield 17, 3) := by decide +kernel
theorem dX0_winner_16 : decode cX0_winner 16 = .ok (.iload_n 1, 1) := by decide +kernel
theorem dX0_winner_17 : decode cX0_winner 17 = .ok (.iaload, 1) := by decide +kernel
theorem dX0_winner_18 : decode cX0_winner 18 = .ok (.invokestatic 35, 3) := by decide +kernel
theorem dX0_winner_21 : decode cX0_winner 21 = .ok (.ifCond .ne 6, 3) := by decide +kernel
theorem dX0_winner_24 : decode cX0_winner 24 = .ok (.bipush (-2), 2) := by decide +kernel
theorem dX0_winner_26 : decode cX0_winner 26 = .ok (.ireturn, 1) := by decide +kernel
theorem dX0_winner_27 : decode cX0_winner 27 = .ok (.aload_n 0, 1) := by decide +kernel
theorem dX0_winner_28 : decode cX0_winner 28 = .ok (.aload_n 0, 1) := by decide +kernel
theorem dX0_winner_29 : decode cX0_winner 29 = .ok (.getfield 17, 3) := by decide +kernel
theorem dX0_winner_32 : decode cX0_winner 32 = .ok (.iload_n 1, 1) := by decide +kernel
theorem dX0_winner_33 : decode cX0_winner 33 = .ok (.iaload, 1) := by decide +kernel
theorem dX0_winner_34 : decode cX0_winner 34 = .ok (.invokevirtual 39, 3) := by decide +kernel
theorem dX0_winner_37 : decode cX0_winner 37 = .ok (.aload_n 0, 1) := by decide +kernel
theorem dX0_winner_38 : decode cX0_winner 38 = .ok (.getfield 24, 3) := by decide +kernel
theorem dX0_winner_41 : decode cX0_winner 41 = .ok (.iconst 0, 1) := by decide +kernel
theorem dX0_winner_42 : decode cX0_winner 42 = .ok (.baload, 1) := by decide +kernel
theorem dX0_winner_43 : decode cX0_winner 43 = .ok (.ifCond .ne 18, 3) := by decide +kernel
theorem dX0_winner_46 : decode cX0_winner 46 = .ok (.aload_n 0, 1) := by decide +kernel
theorem dX0_winner_47 : decode cX0_winner 47 = .ok (.getfield 24, 3) := by decide +kernel
theorem dX0_winner_50 : decode cX0_winner 50 = .ok (.iconst 1, 1) := by decide +kernel
theorem dX0_winner_51 : decode cX0_winner 51 = .ok (.baload, 1) := by decide +kernel
theorem dX0_winner_52 : decode cX0_winner 52 = .ok (.ifCond .ne 7, 3) := by decide +kernel
theorem dX0_winner_55 : decode cX0_winner 55 = .ok (.iconst 2, 1) := by decide +kernel
theorem dX0_winner_56 : decode cX0_winner 56 = .ok (.goto 4, 3) := by decide +kernel
theorem dX0_winner_59 : decode cX0_winner 59 = .ok (.iconst 1, 1) := by decide +kernel
theorem dX0_winner_60 : decode cX0_winner 60 = .ok (.ireturn, 1) := by decide +kernel
theorem dX0_winner_61 : decode cX0_winner 61 = .ok (.iconst 0, 1) := by decide +kernel
theorem dX0_winner_62 : decode cX0_winner 62 = .ok (.ireturn, 1) := by decide +kernel
abbrev cX0_overAfter : ByteArray := prog_1_method_25_code
def yX0_overAfter : MethodName := ⟨RX0, "overAfter", "()I"⟩
theorem dX0_overAfter_0 : decode cX0_overAfter 0 = .ok (.iconst 0, 1) := by decide +kernel
theorem dX0_overAfter_1 : decode cX0_overAfter 1 = .ok (.istore_n 1, 1) := by decide +kernel
theorem dX0_overAfter_2 : decode cX0_overAfter 2 = .ok (.iload_n 1, 1) := by decide +kernel
theorem dX0_overAfter_3 : decode cX0_overAfter 3 = .ok (.bipush 40, 2) := by decide +kernel
theorem dX0_overAfter_5 : decode cX0_overAfter 5 = .ok (.if_icmp .gt 23, 3) := by decide +kernel
theorem dX0_overAfter_8 : decode cX0_overAfter 8 = .ok (.aload_n 0, 1) := by decide +kernel
theorem dX0_overAfter_9 : decode cX0_overAfter 9 = .ok (.getfield 17, 3) := by decide +kernel
theorem dX0_overAfter_12 : decode cX0_overAfter 12 = .ok (.iload_n 1, 1) := by decide +kernel
theorem dX0_overAfter_13 : decode cX0_overAfter 13 = .ok (.iaload, 1) := by decide +kernel
theorem dX0_overAfter_14 : decode cX0_overAfter 14 = .ok (.invokestatic 35, 3) := by decide +kernel
theorem dX0_overAfter_17 : decode cX0_overAfter 17 = .ok (.ifCond .eq 5, 3) := by decide +kernel
theorem dX0_overAfter_20 : decode cX0_overAfter 20 = .ok (.iload_n 1, 1) := by decide +kernel
theorem dX0_overAfter_21 : decode cX0_overAfter 21 = .ok (.ireturn, 1) := by decide +kernel
theorem dX0_overAfter_22 : decode cX0_overAfter 22 = .ok (.iinc 1 1, 3) := by decide +kernel
theorem dX0_overAfter_25 : decode cX0_overAfter 25 = .ok (.goto (-23), 3) := by decide +kernel
theorem dX0_overAfter_28 : decode cX0_overAfter 28 = .ok (.bipush (-2), 2) := by decide +kernel
theorem dX0_overAfter_30 : decode cX0_overAfter 30 = .ok (.ireturn, 1) := by decide +kernel
abbrev cX0_settled : ByteArray := prog_1_method_26_code
def yX0_settled : MethodName := ⟨RX0, "settled", "()Z"⟩
theorem dX0_settled_0 : decode cX0_settled 0 = .ok (.aload_n 0, 1) := by decide +kernel
theorem dX0_settled_1 : decode cX0_settled 1 = .ok (.invokevirtual 79, 3) := by decide +kernel
theorem dX0_settled_4 : decode cX0_settled 4 = .ok (.istore_n 1, 1) := by decide +kernel
theorem dX0_settled_5 : decode cX0_settled 5 = .ok (.iload_n 1, 1) := by decide +kernel
theorem dX0_settled_6 : decode cX0_settled 6 = .ok (.aload_n 0, 1) := by decide +kernel
theorem dX0_settled_7 : decode cX0_settled 7 = .ok (.getfield 62, 3) := by decide +kernel
theorem dX0_settled_10 : decode cX0_settled 10 = .ok (.if_icmp .ge 15, 3) := by decide +kernel
theorem dX0_settled_13 : decode cX0_settled 13 = .ok (.aload_n 0, 1) := by decide +kernel
theorem dX0_settled_14 : decode cX0_settled 14 = .ok (.getfield 17, 3) := by decide +kernel
theorem dX0_settled_17 : decode cX0_settled 17 = .ok (.iload_n 1, 1) := by decide +kernel
theorem dX0_settled_18 : decode cX0_settled 18 = .ok (.iaload, 1) := by decide +kernel
theorem dX0_settled_19 : decode cX0_settled 19 = .ok (.invokestatic 35, 3) := by decide +kernel
theorem dX0_settled_22 : decode cX0_settled 22 = .ok (.ifCond .eq 7, 3) := by decide +kernel
theorem dX0_settled_25 : decode cX0_settled 25 = .ok (.iconst 1, 1) := by decide +kernel
theorem dX0_settled_26 : decode cX0_settled 26 = .ok (.goto 4, 3) := by decide +kernel
theorem dX0_settled_29 : decode cX0_settled 29 = .ok (.iconst 0, 1) := by decide +kernel
theorem dX0_settled_30 : decode cX0_settled 30 = .ok (.ireturn, 1) := by decide +kernel
theorem q18 : (Jvm.Cond.initialized "RollbackGame") ∈ lw_all := lw_g (lw_at lw_m1 1 rfl) rfl
theorem q21 : (Jvm.Cond.instantiable "RollbackGame" (7 : Nat)) ∈ lw_all := lw_g (lw_at lw_m1 4 rfl) rfl
theorem q23 : (Jvm.Cond.instanceMethod ({ cls := "RollbackGame", name := "<init>", desc := "()V" } : Jvm.MethodName)) ∈ lw_all := lw_g (lw_at lw_m1 6 rfl) rfl
theorem q24 : (Jvm.Cond.code ({ cls := "RollbackGame", name := "<init>", desc := "()V" } : Jvm.MethodName) prog_1_method_1_code (1 : Nat) (Option.none : Option Jvm.ClassFile.FieldType)) ∈ lw_all := lw_g (lw_at lw_m1 7 rfl) rfl
theorem q25 : (Jvm.Cond.methodLink "RollbackGame" (1 : Nat) ({ cls := "java/lang/Object", name := "<init>", desc := "()V" } : Jvm.MethodName)) ∈ lw_all := lw_g (lw_at lw_m1 8 rfl) rfl
theorem q28 : (Jvm.Cond.methodLink "RollbackGame" (30 : Nat) ({ cls := "RollbackGame", name := "replay", desc := "(II)I" } : Jvm.MethodName)) ∈ lw_all := lw_g (lw_at lw_m1 11 rfl) rfl
theorem q29 : (Jvm.Cond.privateMethod ({ cls := "RollbackGame", name := "replay", desc := "(II)I" } : Jvm.MethodName)) ∈ lw_tbl := lw_at lw_m1 12 rfl
theorem q30 : (Jvm.Cond.instanceMethod ({ cls := "RollbackGame", name := "replay", desc := "(II)I" } : Jvm.MethodName)) ∈ lw_all := lw_g (lw_at lw_m1 13 rfl) rfl
theorem q31 : (Jvm.Cond.code ({ cls := "RollbackGame", name := "replay", desc := "(II)I" } : Jvm.MethodName) prog_1_method_12_code (7 : Nat) (Option.some Jvm.ClassFile.FieldType.int)) ∈ lw_all := lw_g (lw_at lw_m1 14 rfl) rfl
theorem q32 : (Jvm.Cond.methodLink "RollbackGame" (58 : Nat) ({ cls := "RollbackGame", name := "step", desc := "(III)I" } : Jvm.MethodName)) ∈ lw_all := lw_g (lw_at lw_m1 15 rfl) rfl
theorem q33 : (Jvm.Cond.privateMethod ({ cls := "RollbackGame", name := "step", desc := "(III)I" } : Jvm.MethodName)) ∈ lw_tbl := lw_at lw_m1 16 rfl
theorem q34 : (Jvm.Cond.instanceMethod ({ cls := "RollbackGame", name := "step", desc := "(III)I" } : Jvm.MethodName)) ∈ lw_all := lw_g (lw_at lw_m1 17 rfl) rfl
theorem q35 : (Jvm.Cond.code ({ cls := "RollbackGame", name := "step", desc := "(III)I" } : Jvm.MethodName) prog_1_method_7_code (8 : Nat) (Option.some Jvm.ClassFile.FieldType.int)) ∈ lw_all := lw_g (lw_at lw_m1 18 rfl) rfl
theorem q36 : (Jvm.Cond.methodLink "RollbackGame" (35 : Nat) ({ cls := "RollbackGame", name := "isOver", desc := "(I)Z" } : Jvm.MethodName)) ∈ lw_all := lw_g (lw_at lw_m1 19 rfl) rfl
theorem q37 : (Jvm.Cond.static ({ cls := "RollbackGame", name := "isOver", desc := "(I)Z" } : Jvm.MethodName)) ∈ lw_all := lw_g (lw_at lw_m1 20 rfl) rfl
theorem q38 : (Jvm.Cond.code ({ cls := "RollbackGame", name := "isOver", desc := "(I)Z" } : Jvm.MethodName) prog_1_method_6_code (1 : Nat) (Option.some Jvm.ClassFile.FieldType.boolean)) ∈ lw_all := lw_g (lw_at lw_m1 21 rfl) rfl
theorem q39 : (Jvm.Cond.methodLink "RollbackGame" (39 : Nat) ({ cls := "RollbackGame", name := "load", desc := "(I)V" } : Jvm.MethodName)) ∈ lw_all := lw_g (lw_at lw_m1 22 rfl) rfl
theorem q40 : (Jvm.Cond.privateMethod ({ cls := "RollbackGame", name := "load", desc := "(I)V" } : Jvm.MethodName)) ∈ lw_tbl := lw_at lw_m1 23 rfl
theorem q41 : (Jvm.Cond.instanceMethod ({ cls := "RollbackGame", name := "load", desc := "(I)V" } : Jvm.MethodName)) ∈ lw_all := lw_g (lw_at lw_m1 24 rfl) rfl
theorem q42 : (Jvm.Cond.code ({ cls := "RollbackGame", name := "load", desc := "(I)V" } : Jvm.MethodName) prog_1_method_4_code (2 : Nat) (Option.none : Option Jvm.ClassFile.FieldType)) ∈ lw_all := lw_g (lw_at lw_m1 25 rfl) rfl
theorem q43 : (Jvm.Cond.constant "RollbackGame" (34 : Nat) (100000 : Int32)) ∈ lw_all := lw_g (lw_at lw_m1 26 rfl) rfl
theorem q44 : (Jvm.Cond.methodLink "RollbackGame" (43 : Nat) ({ cls := "RollbackGame", name := "go", desc := "(II)V" } : Jvm.MethodName)) ∈ lw_all := lw_g (lw_at lw_m1 27 rfl) rfl
theorem q45 : (Jvm.Cond.privateMethod ({ cls := "RollbackGame", name := "go", desc := "(II)V" } : Jvm.MethodName)) ∈ lw_tbl := lw_at lw_m1 28 rfl
theorem q46 : (Jvm.Cond.instanceMethod ({ cls := "RollbackGame", name := "go", desc := "(II)V" } : Jvm.MethodName)) ∈ lw_all := lw_g (lw_at lw_m1 29 rfl) rfl
theorem q47 : (Jvm.Cond.code ({ cls := "RollbackGame", name := "go", desc := "(II)V" } : Jvm.MethodName) prog_1_method_8_code (4 : Nat) (Option.none : Option Jvm.ClassFile.FieldType)) ∈ lw_all := lw_g (lw_at lw_m1 30 rfl) rfl
theorem q48 : (Jvm.Cond.methodLink "RollbackGame" (47 : Nat) ({ cls := "RollbackGame", name := "strike", desc := "(IIZ)V" } : Jvm.MethodName)) ∈ lw_all := lw_g (lw_at lw_m1 31 rfl) rfl
theorem q49 : (Jvm.Cond.privateMethod ({ cls := "RollbackGame", name := "strike", desc := "(IIZ)V" } : Jvm.MethodName)) ∈ lw_tbl := lw_at lw_m1 32 rfl
theorem q50 : (Jvm.Cond.instanceMethod ({ cls := "RollbackGame", name := "strike", desc := "(IIZ)V" } : Jvm.MethodName)) ∈ lw_all := lw_g (lw_at lw_m1 33 rfl) rfl
theorem q51 : (Jvm.Cond.code ({ cls := "RollbackGame", name := "strike", desc := "(IIZ)V" } : Jvm.MethodName) prog_1_method_9_code (4 : Nat) (Option.none : Option Jvm.ClassFile.FieldType)) ∈ lw_all := lw_g (lw_at lw_m1 34 rfl) rfl
theorem q52 : (Jvm.Cond.methodLink "RollbackGame" (51 : Nat) ({ cls := "RollbackGame", name := "pack", desc := "()I" } : Jvm.MethodName)) ∈ lw_all := lw_g (lw_at lw_m1 35 rfl) rfl
theorem q53 : (Jvm.Cond.privateMethod ({ cls := "RollbackGame", name := "pack", desc := "()I" } : Jvm.MethodName)) ∈ lw_tbl := lw_at lw_m1 36 rfl
theorem q54 : (Jvm.Cond.instanceMethod ({ cls := "RollbackGame", name := "pack", desc := "()I" } : Jvm.MethodName)) ∈ lw_all := lw_g (lw_at lw_m1 37 rfl) rfl
theorem q55 : (Jvm.Cond.code ({ cls := "RollbackGame", name := "pack", desc := "()I" } : Jvm.MethodName) prog_1_method_5_code (1 : Nat) (Option.some Jvm.ClassFile.FieldType.int)) ∈ lw_all := lw_g (lw_at lw_m1 38 rfl) rfl
theorem q56 : (Jvm.Cond.fieldLink "RollbackGame" (7 : Nat) "RollbackGame" "arrived" "[Z") ∈ lw_all := lw_g (lw_at lw_m1 39 rfl) rfl
theorem q57 : (Jvm.Cond.fieldLink "RollbackGame" (13 : Nat) "RollbackGame" "used" "[B") ∈ lw_all := lw_g (lw_at lw_m1 40 rfl) rfl
theorem q58 : (Jvm.Cond.fieldLink "RollbackGame" (17 : Nat) "RollbackGame" "saved" "[I") ∈ lw_all := lw_g (lw_at lw_m1 41 rfl) rfl
theorem q59 : (Jvm.Cond.fieldLink "RollbackGame" (62 : Nat) "RollbackGame" "playedCount" "I") ∈ lw_all := lw_g (lw_at lw_m1 42 rfl) rfl
theorem q60 : (Jvm.Cond.fieldLink "RollbackGame" (21 : Nat) "RollbackGame" "places" "[B") ∈ lw_all := lw_g (lw_at lw_m1 43 rfl) rfl
theorem q61 : (Jvm.Cond.fieldLink "RollbackGame" (24 : Nat) "RollbackGame" "points" "[B") ∈ lw_all := lw_g (lw_at lw_m1 44 rfl) rfl
theorem q62 : (Jvm.Cond.fieldLink "RollbackGame" (27 : Nat) "RollbackGame" "pauses" "[B") ∈ lw_all := lw_g (lw_at lw_m1 45 rfl) rfl
theorem q63 : (Jvm.Cond.laysFinal "RollbackGame" "RollbackGame" "arrived" "[Z") ∈ lw_all := lw_g (lw_at lw_m1 46 rfl) rfl
theorem q64 : (Jvm.Cond.soleField "RollbackGame" "arrived") ∈ lw_all := lw_g (lw_at lw_m1 47 rfl) rfl
theorem q65 : (Jvm.Cond.laysFinal "RollbackGame" "RollbackGame" "used" "[B") ∈ lw_all := lw_g (lw_at lw_m1 48 rfl) rfl
theorem q66 : (Jvm.Cond.soleField "RollbackGame" "used") ∈ lw_all := lw_g (lw_at lw_m1 49 rfl) rfl
theorem q67 : (Jvm.Cond.laysFinal "RollbackGame" "RollbackGame" "saved" "[I") ∈ lw_all := lw_g (lw_at lw_m1 50 rfl) rfl
theorem q68 : (Jvm.Cond.soleField "RollbackGame" "saved") ∈ lw_all := lw_g (lw_at lw_m1 51 rfl) rfl
theorem q69 : (Jvm.Cond.lays "RollbackGame" "RollbackGame" "playedCount" "I") ∈ lw_all := lw_g (lw_at lw_m1 52 rfl) rfl
theorem q70 : (Jvm.Cond.soleField "RollbackGame" "playedCount") ∈ lw_all := lw_g (lw_at lw_m1 53 rfl) rfl
theorem q71 : (Jvm.Cond.laysFinal "RollbackGame" "RollbackGame" "places" "[B") ∈ lw_all := lw_g (lw_at lw_m1 54 rfl) rfl
theorem q72 : (Jvm.Cond.soleField "RollbackGame" "places") ∈ lw_all := lw_g (lw_at lw_m1 55 rfl) rfl
theorem q73 : (Jvm.Cond.laysFinal "RollbackGame" "RollbackGame" "points" "[B") ∈ lw_all := lw_g (lw_at lw_m1 56 rfl) rfl
theorem q74 : (Jvm.Cond.soleField "RollbackGame" "points") ∈ lw_all := lw_g (lw_at lw_m1 57 rfl) rfl
theorem q75 : (Jvm.Cond.laysFinal "RollbackGame" "RollbackGame" "pauses" "[B") ∈ lw_all := lw_g (lw_at lw_m1 58 rfl) rfl
theorem q76 : (Jvm.Cond.soleField "RollbackGame" "pauses") ∈ lw_all := lw_g (lw_at lw_m1 59 rfl) rfl
theorem q77 : (Jvm.Cond.superclass "RollbackGame" "java/lang/Object") ∈ lw_all := lw_g (lw_at lw_m1 60 rfl) rfl
theorem q82 : (Jvm.Cond.instanceMethod ({ cls := "RollbackGame", name := "arrive", desc := "(III)I" } : Jvm.MethodName)) ∈ lw_all := lw_g (lw_at lw_m1 65 rfl) rfl
theorem q83 : (Jvm.Cond.selects "RollbackGame" ({ cls := "RollbackGame", name := "arrive", desc := "(III)I" } : Jvm.MethodName) ({ cls := "RollbackGame", name := "arrive", desc := "(III)I" } : Jvm.MethodName)) ∈ lw_all := lw_g (lw_at lw_m1 66 rfl) rfl
theorem q84 : (Jvm.Cond.code ({ cls := "RollbackGame", name := "arrive", desc := "(III)I" } : Jvm.MethodName) prog_1_method_13_code (5 : Nat) (Option.some Jvm.ClassFile.FieldType.int)) ∈ lw_all := lw_g (lw_at lw_m1 67 rfl) rfl
theorem q85 : (Jvm.Cond.methodLink "RollbackGame" (66 : Nat) ({ cls := "RollbackGame", name := "isPlayer", desc := "(I)Z" } : Jvm.MethodName)) ∈ lw_all := lw_g (lw_at lw_m1 68 rfl) rfl
theorem q86 : (Jvm.Cond.static ({ cls := "RollbackGame", name := "isPlayer", desc := "(I)Z" } : Jvm.MethodName)) ∈ lw_all := lw_g (lw_at lw_m1 69 rfl) rfl
theorem q87 : (Jvm.Cond.code ({ cls := "RollbackGame", name := "isPlayer", desc := "(I)Z" } : Jvm.MethodName) prog_1_method_2_code (1 : Nat) (Option.some Jvm.ClassFile.FieldType.boolean)) ∈ lw_all := lw_g (lw_at lw_m1 70 rfl) rfl
theorem q88 : (Jvm.Cond.methodLink "RollbackGame" (69 : Nat) ({ cls := "RollbackGame", name := "isFrame", desc := "(I)Z" } : Jvm.MethodName)) ∈ lw_all := lw_g (lw_at lw_m1 71 rfl) rfl
theorem q89 : (Jvm.Cond.static ({ cls := "RollbackGame", name := "isFrame", desc := "(I)Z" } : Jvm.MethodName)) ∈ lw_all := lw_g (lw_at lw_m1 72 rfl) rfl
theorem q90 : (Jvm.Cond.code ({ cls := "RollbackGame", name := "isFrame", desc := "(I)Z" } : Jvm.MethodName) prog_1_method_3_code (1 : Nat) (Option.some Jvm.ClassFile.FieldType.boolean)) ∈ lw_all := lw_g (lw_at lw_m1 73 rfl) rfl
theorem q91 : (Jvm.Cond.methodLink "RollbackGame" (72 : Nat) ({ cls := "RollbackGame", name := "use", desc := "(III)I" } : Jvm.MethodName)) ∈ lw_all := lw_g (lw_at lw_m1 74 rfl) rfl
theorem q92 : (Jvm.Cond.privateMethod ({ cls := "RollbackGame", name := "use", desc := "(III)I" } : Jvm.MethodName)) ∈ lw_tbl := lw_at lw_m1 75 rfl
theorem q93 : (Jvm.Cond.instanceMethod ({ cls := "RollbackGame", name := "use", desc := "(III)I" } : Jvm.MethodName)) ∈ lw_all := lw_g (lw_at lw_m1 76 rfl) rfl
theorem q94 : (Jvm.Cond.code ({ cls := "RollbackGame", name := "use", desc := "(III)I" } : Jvm.MethodName) prog_1_method_11_code (8 : Nat) (Option.some Jvm.ClassFile.FieldType.int)) ∈ lw_all := lw_g (lw_at lw_m1 77 rfl) rfl
theorem q95 : (Jvm.Cond.methodLink "RollbackGame" (55 : Nat) ({ cls := "RollbackGame", name := "guess", desc := "(II)I" } : Jvm.MethodName)) ∈ lw_all := lw_g (lw_at lw_m1 78 rfl) rfl
theorem q96 : (Jvm.Cond.privateMethod ({ cls := "RollbackGame", name := "guess", desc := "(II)I" } : Jvm.MethodName)) ∈ lw_tbl := lw_at lw_m1 79 rfl
theorem q97 : (Jvm.Cond.instanceMethod ({ cls := "RollbackGame", name := "guess", desc := "(II)I" } : Jvm.MethodName)) ∈ lw_all := lw_g (lw_at lw_m1 80 rfl) rfl
theorem q98 : (Jvm.Cond.code ({ cls := "RollbackGame", name := "guess", desc := "(II)I" } : Jvm.MethodName) prog_1_method_10_code (4 : Nat) (Option.some Jvm.ClassFile.FieldType.int)) ∈ lw_all := lw_g (lw_at lw_m1 81 rfl) rfl
theorem q100 : (Jvm.Cond.instanceMethod ({ cls := "RollbackGame", name := "tick", desc := "()I" } : Jvm.MethodName)) ∈ lw_all := lw_g (lw_at lw_m1 83 rfl) rfl
theorem q101 : (Jvm.Cond.selects "RollbackGame" ({ cls := "RollbackGame", name := "tick", desc := "()I" } : Jvm.MethodName) ({ cls := "RollbackGame", name := "tick", desc := "()I" } : Jvm.MethodName)) ∈ lw_all := lw_g (lw_at lw_m1 84 rfl) rfl
theorem q102 : (Jvm.Cond.code ({ cls := "RollbackGame", name := "tick", desc := "()I" } : Jvm.MethodName) prog_1_method_14_code (1 : Nat) (Option.some Jvm.ClassFile.FieldType.int)) ∈ lw_all := lw_g (lw_at lw_m1 85 rfl) rfl
theorem q104 : (Jvm.Cond.instanceMethod ({ cls := "RollbackGame", name := "played", desc := "()I" } : Jvm.MethodName)) ∈ lw_all := lw_g (lw_at lw_m1 87 rfl) rfl
theorem q105 : (Jvm.Cond.selects "RollbackGame" ({ cls := "RollbackGame", name := "played", desc := "()I" } : Jvm.MethodName) ({ cls := "RollbackGame", name := "played", desc := "()I" } : Jvm.MethodName)) ∈ lw_all := lw_g (lw_at lw_m1 88 rfl) rfl
theorem q106 : (Jvm.Cond.code ({ cls := "RollbackGame", name := "played", desc := "()I" } : Jvm.MethodName) prog_1_method_15_code (1 : Nat) (Option.some Jvm.ClassFile.FieldType.int)) ∈ lw_all := lw_g (lw_at lw_m1 89 rfl) rfl
theorem q108 : (Jvm.Cond.instanceMethod ({ cls := "RollbackGame", name := "sure", desc := "()I" } : Jvm.MethodName)) ∈ lw_all := lw_g (lw_at lw_m1 91 rfl) rfl
theorem q109 : (Jvm.Cond.selects "RollbackGame" ({ cls := "RollbackGame", name := "sure", desc := "()I" } : Jvm.MethodName) ({ cls := "RollbackGame", name := "sure", desc := "()I" } : Jvm.MethodName)) ∈ lw_all := lw_g (lw_at lw_m1 92 rfl) rfl
theorem q110 : (Jvm.Cond.code ({ cls := "RollbackGame", name := "sure", desc := "()I" } : Jvm.MethodName) prog_1_method_17_code (3 : Nat) (Option.some Jvm.ClassFile.FieldType.int)) ∈ lw_all := lw_g (lw_at lw_m1 93 rfl) rfl
theorem q111 : (Jvm.Cond.methodLink "RollbackGame" (75 : Nat) ({ cls := "RollbackGame", name := "firstMissing", desc := "(I)I" } : Jvm.MethodName)) ∈ lw_all := lw_g (lw_at lw_m1 94 rfl) rfl
theorem q112 : (Jvm.Cond.privateMethod ({ cls := "RollbackGame", name := "firstMissing", desc := "(I)I" } : Jvm.MethodName)) ∈ lw_tbl := lw_at lw_m1 95 rfl
theorem q113 : (Jvm.Cond.instanceMethod ({ cls := "RollbackGame", name := "firstMissing", desc := "(I)I" } : Jvm.MethodName)) ∈ lw_all := lw_g (lw_at lw_m1 96 rfl) rfl
theorem q114 : (Jvm.Cond.code ({ cls := "RollbackGame", name := "firstMissing", desc := "(I)I" } : Jvm.MethodName) prog_1_method_16_code (3 : Nat) (Option.some Jvm.ClassFile.FieldType.int)) ∈ lw_all := lw_g (lw_at lw_m1 97 rfl) rfl
theorem q116 : (Jvm.Cond.instanceMethod ({ cls := "RollbackGame", name := "position", desc := "(I)I" } : Jvm.MethodName)) ∈ lw_all := lw_g (lw_at lw_m1 99 rfl) rfl
theorem q117 : (Jvm.Cond.selects "RollbackGame" ({ cls := "RollbackGame", name := "position", desc := "(I)I" } : Jvm.MethodName) ({ cls := "RollbackGame", name := "position", desc := "(I)I" } : Jvm.MethodName)) ∈ lw_all := lw_g (lw_at lw_m1 100 rfl) rfl
theorem q118 : (Jvm.Cond.code ({ cls := "RollbackGame", name := "position", desc := "(I)I" } : Jvm.MethodName) prog_1_method_18_code (2 : Nat) (Option.some Jvm.ClassFile.FieldType.int)) ∈ lw_all := lw_g (lw_at lw_m1 101 rfl) rfl
theorem q120 : (Jvm.Cond.instanceMethod ({ cls := "RollbackGame", name := "strength", desc := "(I)I" } : Jvm.MethodName)) ∈ lw_all := lw_g (lw_at lw_m1 103 rfl) rfl
theorem q121 : (Jvm.Cond.selects "RollbackGame" ({ cls := "RollbackGame", name := "strength", desc := "(I)I" } : Jvm.MethodName) ({ cls := "RollbackGame", name := "strength", desc := "(I)I" } : Jvm.MethodName)) ∈ lw_all := lw_g (lw_at lw_m1 104 rfl) rfl
theorem q122 : (Jvm.Cond.code ({ cls := "RollbackGame", name := "strength", desc := "(I)I" } : Jvm.MethodName) prog_1_method_19_code (2 : Nat) (Option.some Jvm.ClassFile.FieldType.int)) ∈ lw_all := lw_g (lw_at lw_m1 105 rfl) rfl
theorem q124 : (Jvm.Cond.instanceMethod ({ cls := "RollbackGame", name := "pause", desc := "(I)I" } : Jvm.MethodName)) ∈ lw_all := lw_g (lw_at lw_m1 107 rfl) rfl
theorem q125 : (Jvm.Cond.selects "RollbackGame" ({ cls := "RollbackGame", name := "pause", desc := "(I)I" } : Jvm.MethodName) ({ cls := "RollbackGame", name := "pause", desc := "(I)I" } : Jvm.MethodName)) ∈ lw_all := lw_g (lw_at lw_m1 108 rfl) rfl
theorem q126 : (Jvm.Cond.code ({ cls := "RollbackGame", name := "pause", desc := "(I)I" } : Jvm.MethodName) prog_1_method_20_code (2 : Nat) (Option.some Jvm.ClassFile.FieldType.int)) ∈ lw_all := lw_g (lw_at lw_m1 109 rfl) rfl
theorem q128 : (Jvm.Cond.instanceMethod ({ cls := "RollbackGame", name := "shown", desc := "(I)I" } : Jvm.MethodName)) ∈ lw_all := lw_g (lw_at lw_m1 111 rfl) rfl
theorem q129 : (Jvm.Cond.selects "RollbackGame" ({ cls := "RollbackGame", name := "shown", desc := "(I)I" } : Jvm.MethodName) ({ cls := "RollbackGame", name := "shown", desc := "(I)I" } : Jvm.MethodName)) ∈ lw_all := lw_g (lw_at lw_m1 112 rfl) rfl
theorem q130 : (Jvm.Cond.code ({ cls := "RollbackGame", name := "shown", desc := "(I)I" } : Jvm.MethodName) prog_1_method_21_code (2 : Nat) (Option.some Jvm.ClassFile.FieldType.int)) ∈ lw_all := lw_g (lw_at lw_m1 113 rfl) rfl
theorem q132 : (Jvm.Cond.instanceMethod ({ cls := "RollbackGame", name := "move", desc := "(II)I" } : Jvm.MethodName)) ∈ lw_all := lw_g (lw_at lw_m1 115 rfl) rfl
theorem q133 : (Jvm.Cond.selects "RollbackGame" ({ cls := "RollbackGame", name := "move", desc := "(II)I" } : Jvm.MethodName) ({ cls := "RollbackGame", name := "move", desc := "(II)I" } : Jvm.MethodName)) ∈ lw_all := lw_g (lw_at lw_m1 116 rfl) rfl
theorem q134 : (Jvm.Cond.code ({ cls := "RollbackGame", name := "move", desc := "(II)I" } : Jvm.MethodName) prog_1_method_22_code (3 : Nat) (Option.some Jvm.ClassFile.FieldType.int)) ∈ lw_all := lw_g (lw_at lw_m1 117 rfl) rfl
theorem q136 : (Jvm.Cond.instanceMethod ({ cls := "RollbackGame", name := "missing", desc := "(I)I" } : Jvm.MethodName)) ∈ lw_all := lw_g (lw_at lw_m1 119 rfl) rfl
theorem q137 : (Jvm.Cond.selects "RollbackGame" ({ cls := "RollbackGame", name := "missing", desc := "(I)I" } : Jvm.MethodName) ({ cls := "RollbackGame", name := "missing", desc := "(I)I" } : Jvm.MethodName)) ∈ lw_all := lw_g (lw_at lw_m1 120 rfl) rfl
theorem q138 : (Jvm.Cond.code ({ cls := "RollbackGame", name := "missing", desc := "(I)I" } : Jvm.MethodName) prog_1_method_23_code (3 : Nat) (Option.some Jvm.ClassFile.FieldType.int)) ∈ lw_all := lw_g (lw_at lw_m1 121 rfl) rfl
theorem q140 : (Jvm.Cond.instanceMethod ({ cls := "RollbackGame", name := "winner", desc := "(I)I" } : Jvm.MethodName)) ∈ lw_all := lw_g (lw_at lw_m1 123 rfl) rfl
theorem q141 : (Jvm.Cond.selects "RollbackGame" ({ cls := "RollbackGame", name := "winner", desc := "(I)I" } : Jvm.MethodName) ({ cls := "RollbackGame", name := "winner", desc := "(I)I" } : Jvm.MethodName)) ∈ lw_all := lw_g (lw_at lw_m1 124 rfl) rfl
theorem q142 : (Jvm.Cond.code ({ cls := "RollbackGame", name := "winner", desc := "(I)I" } : Jvm.MethodName) prog_1_method_24_code (2 : Nat) (Option.some Jvm.ClassFile.FieldType.int)) ∈ lw_all := lw_g (lw_at lw_m1 125 rfl) rfl
theorem q144 : (Jvm.Cond.instanceMethod ({ cls := "RollbackGame", name := "overAfter", desc := "()I" } : Jvm.MethodName)) ∈ lw_all := lw_g (lw_at lw_m1 127 rfl) rfl
theorem q145 : (Jvm.Cond.selects "RollbackGame" ({ cls := "RollbackGame", name := "overAfter", desc := "()I" } : Jvm.MethodName) ({ cls := "RollbackGame", name := "overAfter", desc := "()I" } : Jvm.MethodName)) ∈ lw_all := lw_g (lw_at lw_m1 128 rfl) rfl
theorem q146 : (Jvm.Cond.code ({ cls := "RollbackGame", name := "overAfter", desc := "()I" } : Jvm.MethodName) prog_1_method_25_code (2 : Nat) (Option.some Jvm.ClassFile.FieldType.int)) ∈ lw_all := lw_g (lw_at lw_m1 129 rfl) rfl
theorem q148 : (Jvm.Cond.instanceMethod ({ cls := "RollbackGame", name := "settled", desc := "()Z" } : Jvm.MethodName)) ∈ lw_all := lw_g (lw_at lw_m1 131 rfl) rfl
theorem q149 : (Jvm.Cond.selects "RollbackGame" ({ cls := "RollbackGame", name := "settled", desc := "()Z" } : Jvm.MethodName) ({ cls := "RollbackGame", name := "settled", desc := "()Z" } : Jvm.MethodName)) ∈ lw_all := lw_g (lw_at lw_m1 132 rfl) rfl
theorem q150 : (Jvm.Cond.code ({ cls := "RollbackGame", name := "settled", desc := "()Z" } : Jvm.MethodName) prog_1_method_26_code (2 : Nat) (Option.some Jvm.ClassFile.FieldType.boolean)) ∈ lw_all := lw_g (lw_at lw_m1 133 rfl) rfl
theorem q151 : (Jvm.Cond.methodLink "RollbackGame" (79 : Nat) ({ cls := "RollbackGame", name := "sure", desc := "()I" } : Jvm.MethodName)) ∈ lw_all := lw_g (lw_at lw_m1 134 rfl) rfl
theorem in_X0 : ∀ w ∈ wsX00, w ∈ lw_all := lw_in wsX00 [63, 65, 67, 69, 71, 73, 75] (by decide +kernel) (by decide +kernel)
end
section
/-! RollbackGameModel -/
set_option maxRecDepth 100000
def RX1 : String := "RollbackGameModel"
def TX1 : u_T := fun k => match k with
  | 0 => ("RollbackGameModel", "moves", "[I", false)
  | 1 => ("RollbackGameModel", "done", "I", false)
  | 2 => ("RollbackGameModel", "place", "[I", false)
  | 3 => ("RollbackGameModel", "points", "[I", false)
  | 4 => ("RollbackGameModel", "pauses", "[I", false)
  | _ => ("RollbackGameModel", "before", "[I", false)
def tyX1 : Nat → FieldType := fun k => match k with
  | 0 => .array .int
  | 1 => .int
  | 2 => .array .int
  | 3 => .array .int
  | 4 => .array .int
  | _ => .array .int
abbrev wsX10 : List Cond := u_ws RX1 TX1 6
theorem nmX1 : ∀ a, a < 6 → ∀ b, b < 6 → a ≠ b → (TX1 a).2.1 ≠ (TX1 b).2.1 := by decide +kernel
theorem tyX1_ok : ∀ k, k < 6 → parseFieldDescriptor (TX1 k).2.2.1 = some (tyX1 k) := by decide +kernel
abbrev cX1_init : ByteArray := prog_3_method_1_code
def yX1_init : MethodName := ⟨RX1, "<init>", "()V"⟩
theorem dX1_init_0 : decode cX1_init 0 = .ok (.aload_n 0, 1) := by decide +kernel
theorem dX1_init_1 : decode cX1_init 1 = .ok (.invokespecial 1, 3) := by decide +kernel
theorem dX1_init_4 : decode cX1_init 4 = .ok (.aload_n 0, 1) := by decide +kernel
theorem dX1_init_5 : decode cX1_init 5 = .ok (.bipush 80, 2) := by decide +kernel
theorem dX1_init_7 : decode cX1_init 7 = .ok (.newarray .int, 2) := by decide +kernel
theorem dX1_init_9 : decode cX1_init 9 = .ok (.putfield 7, 3) := by decide +kernel
theorem dX1_init_12 : decode cX1_init 12 = .ok (.aload_n 0, 1) := by decide +kernel
theorem dX1_init_13 : decode cX1_init 13 = .ok (.iconst 2, 1) := by decide +kernel
theorem dX1_init_14 : decode cX1_init 14 = .ok (.newarray .int, 2) := by decide +kernel
theorem dX1_init_16 : decode cX1_init 16 = .ok (.putfield 13, 3) := by decide +kernel
theorem dX1_init_19 : decode cX1_init 19 = .ok (.aload_n 0, 1) := by decide +kernel
theorem dX1_init_20 : decode cX1_init 20 = .ok (.iconst 2, 1) := by decide +kernel
theorem dX1_init_21 : decode cX1_init 21 = .ok (.newarray .int, 2) := by decide +kernel
theorem dX1_init_23 : decode cX1_init 23 = .ok (.putfield 16, 3) := by decide +kernel
theorem dX1_init_26 : decode cX1_init 26 = .ok (.aload_n 0, 1) := by decide +kernel
theorem dX1_init_27 : decode cX1_init 27 = .ok (.iconst 2, 1) := by decide +kernel
theorem dX1_init_28 : decode cX1_init 28 = .ok (.newarray .int, 2) := by decide +kernel
theorem dX1_init_30 : decode cX1_init 30 = .ok (.putfield 19, 3) := by decide +kernel
theorem dX1_init_33 : decode cX1_init 33 = .ok (.aload_n 0, 1) := by decide +kernel
theorem dX1_init_34 : decode cX1_init 34 = .ok (.bipush 41, 2) := by decide +kernel
theorem dX1_init_36 : decode cX1_init 36 = .ok (.newarray .int, 2) := by decide +kernel
theorem dX1_init_38 : decode cX1_init 38 = .ok (.putfield 22, 3) := by decide +kernel
theorem dX1_init_41 : decode cX1_init 41 = .ok (.return_, 1) := by decide +kernel
abbrev cX1_arrive : ByteArray := prog_3_method_10_code
def yX1_arrive : MethodName := ⟨RX1, "arrive", "(III)I"⟩
theorem dX1_arrive_0 : decode cX1_arrive 0 = .ok (.aload_n 0, 1) := by decide +kernel
theorem dX1_arrive_1 : decode cX1_arrive 1 = .ok (.iload_n 1, 1) := by decide +kernel
theorem dX1_arrive_2 : decode cX1_arrive 2 = .ok (.invokevirtual 45, 3) := by decide +kernel
theorem dX1_arrive_5 : decode cX1_arrive 5 = .ok (.ifCond .eq 34, 3) := by decide +kernel
theorem dX1_arrive_8 : decode cX1_arrive 8 = .ok (.aload_n 0, 1) := by decide +kernel
theorem dX1_arrive_9 : decode cX1_arrive 9 = .ok (.iload_n 2, 1) := by decide +kernel
theorem dX1_arrive_10 : decode cX1_arrive 10 = .ok (.invokevirtual 49, 3) := by decide +kernel
theorem dX1_arrive_13 : decode cX1_arrive 13 = .ok (.ifCond .eq 26, 3) := by decide +kernel
theorem dX1_arrive_16 : decode cX1_arrive 16 = .ok (.iload_n 3, 1) := by decide +kernel
theorem dX1_arrive_17 : decode cX1_arrive 17 = .ok (.ifCond .lt 22, 3) := by decide +kernel
theorem dX1_arrive_20 : decode cX1_arrive 20 = .ok (.iload_n 3, 1) := by decide +kernel
theorem dX1_arrive_21 : decode cX1_arrive 21 = .ok (.iconst 3, 1) := by decide +kernel
theorem dX1_arrive_22 : decode cX1_arrive 22 = .ok (.if_icmp .gt 17, 3) := by decide +kernel
theorem dX1_arrive_25 : decode cX1_arrive 25 = .ok (.aload_n 0, 1) := by decide +kernel
theorem dX1_arrive_26 : decode cX1_arrive 26 = .ok (.getfield 7, 3) := by decide +kernel
theorem dX1_arrive_29 : decode cX1_arrive 29 = .ok (.bipush 40, 2) := by decide +kernel
theorem dX1_arrive_31 : decode cX1_arrive 31 = .ok (.iload_n 1, 1) := by decide +kernel
theorem dX1_arrive_32 : decode cX1_arrive 32 = .ok (.imul, 1) := by decide +kernel
theorem dX1_arrive_33 : decode cX1_arrive 33 = .ok (.iload_n 2, 1) := by decide +kernel
theorem dX1_arrive_34 : decode cX1_arrive 34 = .ok (.iadd, 1) := by decide +kernel
theorem dX1_arrive_35 : decode cX1_arrive 35 = .ok (.iaload, 1) := by decide +kernel
theorem dX1_arrive_36 : decode cX1_arrive 36 = .ok (.ifCond .le 5, 3) := by decide +kernel
theorem dX1_arrive_39 : decode cX1_arrive 39 = .ok (.iconst (-1), 1) := by decide +kernel
theorem dX1_arrive_40 : decode cX1_arrive 40 = .ok (.ireturn, 1) := by decide +kernel
theorem dX1_arrive_41 : decode cX1_arrive 41 = .ok (.iconst 1, 1) := by decide +kernel
theorem dX1_arrive_42 : decode cX1_arrive 42 = .ok (.istore 4, 2) := by decide +kernel
theorem dX1_arrive_44 : decode cX1_arrive 44 = .ok (.iload 4, 2) := by decide +kernel
theorem dX1_arrive_46 : decode cX1_arrive 46 = .ok (.aload_n 0, 1) := by decide +kernel
theorem dX1_arrive_47 : decode cX1_arrive 47 = .ok (.getfield 52, 3) := by decide +kernel
theorem dX1_arrive_50 : decode cX1_arrive 50 = .ok (.if_icmp .gt 22, 3) := by decide +kernel
theorem dX1_arrive_53 : decode cX1_arrive 53 = .ok (.aload_n 0, 1) := by decide +kernel
theorem dX1_arrive_54 : decode cX1_arrive 54 = .ok (.getfield 22, 3) := by decide +kernel
theorem dX1_arrive_57 : decode cX1_arrive 57 = .ok (.iload 4, 2) := by decide +kernel
theorem dX1_arrive_59 : decode cX1_arrive 59 = .ok (.aload_n 0, 1) := by decide +kernel
theorem dX1_arrive_60 : decode cX1_arrive 60 = .ok (.iload 4, 2) := by decide +kernel
theorem dX1_arrive_62 : decode cX1_arrive 62 = .ok (.invokevirtual 56, 3) := by decide +kernel
theorem dX1_arrive_65 : decode cX1_arrive 65 = .ok (.iastore, 1) := by decide +kernel
theorem dX1_arrive_66 : decode cX1_arrive 66 = .ok (.iinc 4 1, 3) := by decide +kernel
theorem dX1_arrive_69 : decode cX1_arrive 69 = .ok (.goto (-25), 3) := by decide +kernel
theorem dX1_arrive_72 : decode cX1_arrive 72 = .ok (.aload_n 0, 1) := by decide +kernel
theorem dX1_arrive_73 : decode cX1_arrive 73 = .ok (.getfield 7, 3) := by decide +kernel
theorem dX1_arrive_76 : decode cX1_arrive 76 = .ok (.bipush 40, 2) := by decide +kernel
theorem dX1_arrive_78 : decode cX1_arrive 78 = .ok (.iload_n 1, 1) := by decide +kernel
theorem dX1_arrive_79 : decode cX1_arrive 79 = .ok (.imul, 1) := by decide +kernel
theorem dX1_arrive_80 : decode cX1_arrive 80 = .ok (.iload_n 2, 1) := by decide +kernel
theorem dX1_arrive_81 : decode cX1_arrive 81 = .ok (.iadd, 1) := by decide +kernel
theorem dX1_arrive_82 : decode cX1_arrive 82 = .ok (.iload_n 3, 1) := by decide +kernel
theorem dX1_arrive_83 : decode cX1_arrive 83 = .ok (.iconst 1, 1) := by decide +kernel
theorem dX1_arrive_84 : decode cX1_arrive 84 = .ok (.iadd, 1) := by decide +kernel
theorem dX1_arrive_85 : decode cX1_arrive 85 = .ok (.iastore, 1) := by decide +kernel
theorem dX1_arrive_86 : decode cX1_arrive 86 = .ok (.iconst 0, 1) := by decide +kernel
theorem dX1_arrive_87 : decode cX1_arrive 87 = .ok (.istore 4, 2) := by decide +kernel
theorem dX1_arrive_89 : decode cX1_arrive 89 = .ok (.iconst 1, 1) := by decide +kernel
theorem dX1_arrive_90 : decode cX1_arrive 90 = .ok (.istore 5, 2) := by decide +kernel
theorem dX1_arrive_92 : decode cX1_arrive 92 = .ok (.iload 5, 2) := by decide +kernel
theorem dX1_arrive_94 : decode cX1_arrive 94 = .ok (.aload_n 0, 1) := by decide +kernel
theorem dX1_arrive_95 : decode cX1_arrive 95 = .ok (.getfield 52, 3) := by decide +kernel
theorem dX1_arrive_98 : decode cX1_arrive 98 = .ok (.if_icmp .gt 36, 3) := by decide +kernel
theorem dX1_arrive_101 : decode cX1_arrive 101 = .ok (.aload_n 0, 1) := by decide +kernel
theorem dX1_arrive_102 : decode cX1_arrive 102 = .ok (.iload 5, 2) := by decide +kernel
theorem dX1_arrive_104 : decode cX1_arrive 104 = .ok (.invokevirtual 56, 3) := by decide +kernel
theorem dX1_arrive_107 : decode cX1_arrive 107 = .ok (.aload_n 0, 1) := by decide +kernel
theorem dX1_arrive_108 : decode cX1_arrive 108 = .ok (.getfield 22, 3) := by decide +kernel
theorem dX1_arrive_111 : decode cX1_arrive 111 = .ok (.iload 5, 2) := by decide +kernel
theorem dX1_arrive_113 : decode cX1_arrive 113 = .ok (.iaload, 1) := by decide +kernel
theorem dX1_arrive_114 : decode cX1_arrive 114 = .ok (.if_icmp .eq 10, 3) := by decide +kernel
theorem dX1_arrive_117 : decode cX1_arrive 117 = .ok (.iload 4, 2) := by decide +kernel
theorem dX1_arrive_119 : decode cX1_arrive 119 = .ok (.iconst 1, 1) := by decide +kernel
theorem dX1_arrive_120 : decode cX1_arrive 120 = .ok (.iadd, 1) := by decide +kernel
theorem dX1_arrive_121 : decode cX1_arrive 121 = .ok (.goto 5, 3) := by decide +kernel
theorem dX1_arrive_124 : decode cX1_arrive 124 = .ok (.iload 4, 2) := by decide +kernel
theorem dX1_arrive_126 : decode cX1_arrive 126 = .ok (.istore 4, 2) := by decide +kernel
theorem dX1_arrive_128 : decode cX1_arrive 128 = .ok (.iinc 5 1, 3) := by decide +kernel
theorem dX1_arrive_131 : decode cX1_arrive 131 = .ok (.goto (-39), 3) := by decide +kernel
theorem dX1_arrive_134 : decode cX1_arrive 134 = .ok (.iload 4, 2) := by decide +kernel
theorem dX1_arrive_136 : decode cX1_arrive 136 = .ok (.ireturn, 1) := by decide +kernel
abbrev cX1_player : ByteArray := prog_3_method_2_code
def yX1_player : MethodName := ⟨RX1, "player", "(I)Z"⟩
theorem dX1_player_0 : decode cX1_player 0 = .ok (.iload_n 1, 1) := by decide +kernel
theorem dX1_player_1 : decode cX1_player 1 = .ok (.ifCond .eq 8, 3) := by decide +kernel
theorem dX1_player_4 : decode cX1_player 4 = .ok (.iload_n 1, 1) := by decide +kernel
theorem dX1_player_5 : decode cX1_player 5 = .ok (.iconst 1, 1) := by decide +kernel
theorem dX1_player_6 : decode cX1_player 6 = .ok (.if_icmp .ne 7, 3) := by decide +kernel
theorem dX1_player_9 : decode cX1_player 9 = .ok (.iconst 1, 1) := by decide +kernel
theorem dX1_player_10 : decode cX1_player 10 = .ok (.goto 4, 3) := by decide +kernel
theorem dX1_player_13 : decode cX1_player 13 = .ok (.iconst 0, 1) := by decide +kernel
theorem dX1_player_14 : decode cX1_player 14 = .ok (.ireturn, 1) := by decide +kernel
abbrev cX1_frame : ByteArray := prog_3_method_3_code
def yX1_frame : MethodName := ⟨RX1, "frame", "(I)Z"⟩
theorem dX1_frame_0 : decode cX1_frame 0 = .ok (.iload_n 1, 1) := by decide +kernel
theorem dX1_frame_1 : decode cX1_frame 1 = .ok (.ifCond .lt 13, 3) := by decide +kernel
theorem dX1_frame_4 : decode cX1_frame 4 = .ok (.iload_n 1, 1) := by decide +kernel
theorem dX1_frame_5 : decode cX1_frame 5 = .ok (.bipush 39, 2) := by decide +kernel
theorem dX1_frame_7 : decode cX1_frame 7 = .ok (.if_icmp .gt 7, 3) := by decide +kernel
theorem dX1_frame_10 : decode cX1_frame 10 = .ok (.iconst 1, 1) := by decide +kernel
theorem dX1_frame_11 : decode cX1_frame 11 = .ok (.goto 4, 3) := by decide +kernel
theorem dX1_frame_14 : decode cX1_frame 14 = .ok (.iconst 0, 1) := by decide +kernel
theorem dX1_frame_15 : decode cX1_frame 15 = .ok (.ireturn, 1) := by decide +kernel
abbrev cX1_picture : ByteArray := prog_3_method_9_code
def yX1_picture : MethodName := ⟨RX1, "picture", "(I)I"⟩
theorem dX1_picture_0 : decode cX1_picture 0 = .ok (.aload_n 0, 1) := by decide +kernel
theorem dX1_picture_1 : decode cX1_picture 1 = .ok (.iload_n 1, 1) := by decide +kernel
theorem dX1_picture_2 : decode cX1_picture 2 = .ok (.invokevirtual 41, 3) := by decide +kernel
theorem dX1_picture_5 : decode cX1_picture 5 = .ok (.aload_n 0, 1) := by decide +kernel
theorem dX1_picture_6 : decode cX1_picture 6 = .ok (.getfield 13, 3) := by decide +kernel
theorem dX1_picture_9 : decode cX1_picture 9 = .ok (.iconst 0, 1) := by decide +kernel
theorem dX1_picture_10 : decode cX1_picture 10 = .ok (.iaload, 1) := by decide +kernel
theorem dX1_picture_11 : decode cX1_picture 11 = .ok (.bipush 10, 2) := by decide +kernel
theorem dX1_picture_13 : decode cX1_picture 13 = .ok (.aload_n 0, 1) := by decide +kernel
theorem dX1_picture_14 : decode cX1_picture 14 = .ok (.getfield 13, 3) := by decide +kernel
theorem dX1_picture_17 : decode cX1_picture 17 = .ok (.iconst 1, 1) := by decide +kernel
theorem dX1_picture_18 : decode cX1_picture 18 = .ok (.iaload, 1) := by decide +kernel
theorem dX1_picture_19 : decode cX1_picture 19 = .ok (.imul, 1) := by decide +kernel
theorem dX1_picture_20 : decode cX1_picture 20 = .ok (.iadd, 1) := by decide +kernel
theorem dX1_picture_21 : decode cX1_picture 21 = .ok (.bipush 100, 2) := by decide +kernel
theorem dX1_picture_23 : decode cX1_picture 23 = .ok (.aload_n 0, 1) := by decide +kernel
theorem dX1_picture_24 : decode cX1_picture 24 = .ok (.getfield 16, 3) := by decide +kernel
theorem dX1_picture_27 : decode cX1_picture 27 = .ok (.iconst 0, 1) := by decide +kernel
theorem dX1_picture_28 : decode cX1_picture 28 = .ok (.iaload, 1) := by decide +kernel
theorem dX1_picture_29 : decode cX1_picture 29 = .ok (.imul, 1) := by decide +kernel
theorem dX1_picture_30 : decode cX1_picture 30 = .ok (.iadd, 1) := by decide +kernel
theorem dX1_picture_31 : decode cX1_picture 31 = .ok (.sipush 1000, 3) := by decide +kernel
theorem dX1_picture_34 : decode cX1_picture 34 = .ok (.aload_n 0, 1) := by decide +kernel
theorem dX1_picture_35 : decode cX1_picture 35 = .ok (.getfield 16, 3) := by decide +kernel
theorem dX1_picture_38 : decode cX1_picture 38 = .ok (.iconst 1, 1) := by decide +kernel
theorem dX1_picture_39 : decode cX1_picture 39 = .ok (.iaload, 1) := by decide +kernel
theorem dX1_picture_40 : decode cX1_picture 40 = .ok (.imul, 1) := by decide +kernel
theorem dX1_picture_41 : decode cX1_picture 41 = .ok (.iadd, 1) := by decide +kernel
theorem dX1_picture_42 : decode cX1_picture 42 = .ok (.sipush 10000, 3) := by decide +kernel
theorem dX1_picture_45 : decode cX1_picture 45 = .ok (.aload_n 0, 1) := by decide +kernel
theorem dX1_picture_46 : decode cX1_picture 46 = .ok (.getfield 19, 3) := by decide +kernel
theorem dX1_picture_49 : decode cX1_picture 49 = .ok (.iconst 0, 1) := by decide +kernel
theorem dX1_picture_50 : decode cX1_picture 50 = .ok (.iaload, 1) := by decide +kernel
theorem dX1_picture_51 : decode cX1_picture 51 = .ok (.imul, 1) := by decide +kernel
theorem dX1_picture_52 : decode cX1_picture 52 = .ok (.iadd, 1) := by decide +kernel
theorem dX1_picture_53 : decode cX1_picture 53 = .ok (.ldc 44, 2) := by decide +kernel
theorem dX1_picture_55 : decode cX1_picture 55 = .ok (.aload_n 0, 1) := by decide +kernel
theorem dX1_picture_56 : decode cX1_picture 56 = .ok (.getfield 19, 3) := by decide +kernel
theorem dX1_picture_59 : decode cX1_picture 59 = .ok (.iconst 1, 1) := by decide +kernel
theorem dX1_picture_60 : decode cX1_picture 60 = .ok (.iaload, 1) := by decide +kernel
theorem dX1_picture_61 : decode cX1_picture 61 = .ok (.imul, 1) := by decide +kernel
theorem dX1_picture_62 : decode cX1_picture 62 = .ok (.iadd, 1) := by decide +kernel
theorem dX1_picture_63 : decode cX1_picture 63 = .ok (.ireturn, 1) := by decide +kernel
abbrev cX1_play : ByteArray := prog_3_method_8_code
def yX1_play : MethodName := ⟨RX1, "play", "(I)V"⟩
theorem dX1_play_0 : decode cX1_play 0 = .ok (.aload_n 0, 1) := by decide +kernel
theorem dX1_play_1 : decode cX1_play 1 = .ok (.getfield 13, 3) := by decide +kernel
theorem dX1_play_4 : decode cX1_play 4 = .ok (.iconst 0, 1) := by decide +kernel
theorem dX1_play_5 : decode cX1_play 5 = .ok (.iconst 2, 1) := by decide +kernel
theorem dX1_play_6 : decode cX1_play 6 = .ok (.iastore, 1) := by decide +kernel
theorem dX1_play_7 : decode cX1_play 7 = .ok (.aload_n 0, 1) := by decide +kernel
theorem dX1_play_8 : decode cX1_play 8 = .ok (.getfield 13, 3) := by decide +kernel
theorem dX1_play_11 : decode cX1_play 11 = .ok (.iconst 1, 1) := by decide +kernel
theorem dX1_play_12 : decode cX1_play 12 = .ok (.bipush 7, 2) := by decide +kernel
theorem dX1_play_14 : decode cX1_play 14 = .ok (.iastore, 1) := by decide +kernel
theorem dX1_play_15 : decode cX1_play 15 = .ok (.iconst 0, 1) := by decide +kernel
theorem dX1_play_16 : decode cX1_play 16 = .ok (.istore_n 2, 1) := by decide +kernel
theorem dX1_play_17 : decode cX1_play 17 = .ok (.iload_n 2, 1) := by decide +kernel
theorem dX1_play_18 : decode cX1_play 18 = .ok (.iconst 2, 1) := by decide +kernel
theorem dX1_play_19 : decode cX1_play 19 = .ok (.if_icmp .ge 23, 3) := by decide +kernel
theorem dX1_play_22 : decode cX1_play 22 = .ok (.aload_n 0, 1) := by decide +kernel
theorem dX1_play_23 : decode cX1_play 23 = .ok (.getfield 16, 3) := by decide +kernel
theorem dX1_play_26 : decode cX1_play 26 = .ok (.iload_n 2, 1) := by decide +kernel
theorem dX1_play_27 : decode cX1_play 27 = .ok (.iconst 5, 1) := by decide +kernel
theorem dX1_play_28 : decode cX1_play 28 = .ok (.iastore, 1) := by decide +kernel
theorem dX1_play_29 : decode cX1_play 29 = .ok (.aload_n 0, 1) := by decide +kernel
theorem dX1_play_30 : decode cX1_play 30 = .ok (.getfield 19, 3) := by decide +kernel
theorem dX1_play_33 : decode cX1_play 33 = .ok (.iload_n 2, 1) := by decide +kernel
theorem dX1_play_34 : decode cX1_play 34 = .ok (.iconst 0, 1) := by decide +kernel
theorem dX1_play_35 : decode cX1_play 35 = .ok (.iastore, 1) := by decide +kernel
theorem dX1_play_36 : decode cX1_play 36 = .ok (.iinc 2 1, 3) := by decide +kernel
theorem dX1_play_39 : decode cX1_play 39 = .ok (.goto (-22), 3) := by decide +kernel
theorem dX1_play_42 : decode cX1_play 42 = .ok (.iconst 0, 1) := by decide +kernel
theorem dX1_play_43 : decode cX1_play 43 = .ok (.istore_n 2, 1) := by decide +kernel
theorem dX1_play_44 : decode cX1_play 44 = .ok (.iload_n 2, 1) := by decide +kernel
theorem dX1_play_45 : decode cX1_play 45 = .ok (.iload_n 1, 1) := by decide +kernel
theorem dX1_play_46 : decode cX1_play 46 = .ok (.if_icmp .ge 21, 3) := by decide +kernel
theorem dX1_play_49 : decode cX1_play 49 = .ok (.aload_n 0, 1) := by decide +kernel
theorem dX1_play_50 : decode cX1_play 50 = .ok (.invokevirtual 33, 3) := by decide +kernel
theorem dX1_play_53 : decode cX1_play 53 = .ok (.ifCond .ne 14, 3) := by decide +kernel
theorem dX1_play_56 : decode cX1_play 56 = .ok (.aload_n 0, 1) := by decide +kernel
theorem dX1_play_57 : decode cX1_play 57 = .ok (.iload_n 2, 1) := by decide +kernel
theorem dX1_play_58 : decode cX1_play 58 = .ok (.invokevirtual 37, 3) := by decide +kernel
theorem dX1_play_61 : decode cX1_play 61 = .ok (.iinc 2 1, 3) := by decide +kernel
theorem dX1_play_64 : decode cX1_play 64 = .ok (.goto (-20), 3) := by decide +kernel
theorem dX1_play_67 : decode cX1_play 67 = .ok (.return_, 1) := by decide +kernel
abbrev cX1_over : ByteArray := prog_3_method_5_code
def yX1_over : MethodName := ⟨RX1, "over", "()Z"⟩
theorem dX1_over_0 : decode cX1_over 0 = .ok (.aload_n 0, 1) := by decide +kernel
theorem dX1_over_1 : decode cX1_over 1 = .ok (.getfield 16, 3) := by decide +kernel
theorem dX1_over_4 : decode cX1_over 4 = .ok (.iconst 0, 1) := by decide +kernel
theorem dX1_over_5 : decode cX1_over 5 = .ok (.iaload, 1) := by decide +kernel
theorem dX1_over_6 : decode cX1_over 6 = .ok (.ifCond .eq 12, 3) := by decide +kernel
theorem dX1_over_9 : decode cX1_over 9 = .ok (.aload_n 0, 1) := by decide +kernel
theorem dX1_over_10 : decode cX1_over 10 = .ok (.getfield 16, 3) := by decide +kernel
theorem dX1_over_13 : decode cX1_over 13 = .ok (.iconst 1, 1) := by decide +kernel
theorem dX1_over_14 : decode cX1_over 14 = .ok (.iaload, 1) := by decide +kernel
theorem dX1_over_15 : decode cX1_over 15 = .ok (.ifCond .ne 7, 3) := by decide +kernel
theorem dX1_over_18 : decode cX1_over 18 = .ok (.iconst 1, 1) := by decide +kernel
theorem dX1_over_19 : decode cX1_over 19 = .ok (.goto 4, 3) := by decide +kernel
theorem dX1_over_22 : decode cX1_over 22 = .ok (.iconst 0, 1) := by decide +kernel
theorem dX1_over_23 : decode cX1_over 23 = .ok (.ireturn, 1) := by decide +kernel
abbrev cX1_step : ByteArray := prog_3_method_7_code
def yX1_step : MethodName := ⟨RX1, "step", "(I)V"⟩
theorem dX1_step_0 : decode cX1_step 0 = .ok (.aload_n 0, 1) := by decide +kernel
theorem dX1_step_1 : decode cX1_step 1 = .ok (.getfield 19, 3) := by decide +kernel
theorem dX1_step_4 : decode cX1_step 4 = .ok (.iconst 0, 1) := by decide +kernel
theorem dX1_step_5 : decode cX1_step 5 = .ok (.iaload, 1) := by decide +kernel
theorem dX1_step_6 : decode cX1_step 6 = .ok (.ifCond .ne 7, 3) := by decide +kernel
theorem dX1_step_9 : decode cX1_step 9 = .ok (.iconst 1, 1) := by decide +kernel
theorem dX1_step_10 : decode cX1_step 10 = .ok (.goto 4, 3) := by decide +kernel
theorem dX1_step_13 : decode cX1_step 13 = .ok (.iconst 0, 1) := by decide +kernel
theorem dX1_step_14 : decode cX1_step 14 = .ok (.istore_n 2, 1) := by decide +kernel
theorem dX1_step_15 : decode cX1_step 15 = .ok (.aload_n 0, 1) := by decide +kernel
theorem dX1_step_16 : decode cX1_step 16 = .ok (.getfield 19, 3) := by decide +kernel
theorem dX1_step_19 : decode cX1_step 19 = .ok (.iconst 1, 1) := by decide +kernel
theorem dX1_step_20 : decode cX1_step 20 = .ok (.iaload, 1) := by decide +kernel
theorem dX1_step_21 : decode cX1_step 21 = .ok (.ifCond .ne 7, 3) := by decide +kernel
theorem dX1_step_24 : decode cX1_step 24 = .ok (.iconst 1, 1) := by decide +kernel
theorem dX1_step_25 : decode cX1_step 25 = .ok (.goto 4, 3) := by decide +kernel
theorem dX1_step_28 : decode cX1_step 28 = .ok (.iconst 0, 1) := by decide +kernel
theorem dX1_step_29 : decode cX1_step 29 = .ok (.istore_n 3, 1) := by decide +kernel
theorem dX1_step_30 : decode cX1_step 30 = .ok (.iload_n 2, 1) := by decide +kernel
theorem dX1_step_31 : decode cX1_step 31 = .ok (.ifCond .eq 12, 3) := by decide +kernel
theorem dX1_step_34 : decode cX1_step 34 = .ok (.aload_n 0, 1) := by decide +kernel
theorem dX1_step_35 : decode cX1_step 35 = .ok (.iconst 0, 1) := by decide +kernel
theorem dX1_step_36 : decode cX1_step 36 = .ok (.iload_n 1, 1) := by decide +kernel
theorem dX1_step_37 : decode cX1_step 37 = .ok (.invokevirtual 25, 3) := by decide +kernel
theorem dX1_step_40 : decode cX1_step 40 = .ok (.goto 4, 3) := by decide +kernel
theorem dX1_step_43 : decode cX1_step 43 = .ok (.iconst 0, 1) := by decide +kernel
theorem dX1_step_44 : decode cX1_step 44 = .ok (.istore 4, 2) := by decide +kernel
theorem dX1_step_46 : decode cX1_step 46 = .ok (.iload_n 3, 1) := by decide +kernel
theorem dX1_step_47 : decode cX1_step 47 = .ok (.ifCond .eq 12, 3) := by decide +kernel
theorem dX1_step_50 : decode cX1_step 50 = .ok (.aload_n 0, 1) := by decide +kernel
theorem dX1_step_51 : decode cX1_step 51 = .ok (.iconst 1, 1) := by decide +kernel
theorem dX1_step_52 : decode cX1_step 52 = .ok (.iload_n 1, 1) := by decide +kernel
theorem dX1_step_53 : decode cX1_step 53 = .ok (.invokevirtual 25, 3) := by decide +kernel
theorem dX1_step_56 : decode cX1_step 56 = .ok (.goto 4, 3) := by decide +kernel
theorem dX1_step_59 : decode cX1_step 59 = .ok (.iconst 0, 1) := by decide +kernel
theorem dX1_step_60 : decode cX1_step 60 = .ok (.istore 5, 2) := by decide +kernel
theorem dX1_step_62 : decode cX1_step 62 = .ok (.aload_n 0, 1) := by decide +kernel
theorem dX1_step_63 : decode cX1_step 63 = .ok (.getfield 19, 3) := by decide +kernel
theorem dX1_step_66 : decode cX1_step 66 = .ok (.iconst 0, 1) := by decide +kernel
theorem dX1_step_67 : decode cX1_step 67 = .ok (.iload_n 2, 1) := by decide +kernel
theorem dX1_step_68 : decode cX1_step 68 = .ok (.ifCond .eq 7, 3) := by decide +kernel
theorem dX1_step_71 : decode cX1_step 71 = .ok (.iconst 0, 1) := by decide +kernel
theorem dX1_step_72 : decode cX1_step 72 = .ok (.goto 11, 3) := by decide +kernel
theorem dX1_step_75 : decode cX1_step 75 = .ok (.aload_n 0, 1) := by decide +kernel
theorem dX1_step_76 : decode cX1_step 76 = .ok (.getfield 19, 3) := by decide +kernel
theorem dX1_step_79 : decode cX1_step 79 = .ok (.iconst 0, 1) := by decide +kernel
theorem dX1_step_80 : decode cX1_step 80 = .ok (.iaload, 1) := by decide +kernel
theorem dX1_step_81 : decode cX1_step 81 = .ok (.iconst 1, 1) := by decide +kernel
theorem dX1_step_82 : decode cX1_step 82 = .ok (.isub, 1) := by decide +kernel
theorem dX1_step_83 : decode cX1_step 83 = .ok (.iastore, 1) := by decide +kernel
theorem dX1_step_84 : decode cX1_step 84 = .ok (.aload_n 0, 1) := by decide +kernel
theorem dX1_step_85 : decode cX1_step 85 = .ok (.getfield 19, 3) := by decide +kernel
theorem dX1_step_88 : decode cX1_step 88 = .ok (.iconst 1, 1) := by decide +kernel
theorem dX1_step_89 : decode cX1_step 89 = .ok (.iload_n 3, 1) := by decide +kernel
theorem dX1_step_90 : decode cX1_step 90 = .ok (.ifCond .eq 7, 3) := by decide +kernel
theorem dX1_step_93 : decode cX1_step 93 = .ok (.iconst 0, 1) := by decide +kernel
theorem dX1_step_94 : decode cX1_step 94 = .ok (.goto 11, 3) := by decide +kernel
theorem dX1_step_97 : decode cX1_step 97 = .ok (.aload_n 0, 1) := by decide +kernel
theorem dX1_step_98 : decode cX1_step 98 = .ok (.getfield 19, 3) := by decide +kernel
theorem dX1_step_101 : decode cX1_step 101 = .ok (.iconst 1, 1) := by decide +kernel
theorem dX1_step_102 : decode cX1_step 102 = .ok (.iaload, 1) := by decide +kernel
theorem dX1_step_103 : decode cX1_step 103 = .ok (.iconst 1, 1) := by decide +kernel
theorem dX1_step_104 : decode cX1_step 104 = .ok (.isub, 1) := by decide +kernel
theorem dX1_step_105 : decode cX1_step 105 = .ok (.iastore, 1) := by decide +kernel
theorem dX1_step_106 : decode cX1_step 106 = .ok (.aload_n 0, 1) := by decide +kernel
theorem dX1_step_107 : decode cX1_step 107 = .ok (.iconst 0, 1) := by decide +kernel
theorem dX1_step_108 : decode cX1_step 108 = .ok (.iload 4, 2) := by decide +kernel
theorem dX1_step_110 : decode cX1_step 110 = .ok (.invokevirtual 29, 3) := by decide +kernel
theorem dX1_step_113 : decode cX1_step 113 = .ok (.aload_n 0, 1) := by decide +kernel
theorem dX1_step_114 : decode cX1_step 114 = .ok (.iconst 1, 1) := by decide +kernel
theorem dX1_step_115 : decode cX1_step 115 = .ok (.iload 5, 2) := by decide +kernel
theorem dX1_step_117 : decode cX1_step 117 = .ok (.invokevirtual 29, 3) := by decide +kernel
theorem dX1_step_120 : decode cX1_step 120 = .ok (.aload_n 0, 1) := by decide +kernel
theorem dX1_step_121 : decode cX1_step 121 = .ok (.getfield 13, 3) := by decide +kernel
theorem dX1_step_124 : decode cX1_step 124 = .ok (.iconst 0, 1) := by decide +kernel
theorem dX1_step_125 : decode cX1_step 125 = .ok (.iaload, 1) := by decide +kernel
theorem dX1_step_126 : decode cX1_step 126 = .ok (.aload_n 0, 1) := by decide +kernel
theorem dX1_step_127 : decode cX1_step 127 = .ok (.getfield 13, 3) := by decide +kernel
theorem dX1_step_130 : decode cX1_step 130 = .ok (.iconst 1, 1) := by decide +kernel
theorem dX1_step_131 : decode cX1_step 131 = .ok (.iaload, 1) := by decide +kernel
theorem dX1_step_132 : decode cX1_step 132 = .ok (.isub, 1) := by decide +kernel
theorem dX1_step_133 : decode cX1_step 133 = .ok (.istore 6, 2) := by decide +kernel
theorem dX1_step_135 : decode cX1_step 135 = .ok (.iload 6, 2) := by decide +kernel
theorem dX1_step_137 : decode cX1_step 137 = .ok (.iconst (-1), 1) := by decide +kernel
theorem dX1_step_138 : decode cX1_step 138 = .ok (.if_icmp .lt 13, 3) := by decide +kernel
theorem dX1_step_141 : decode cX1_step 141 = .ok (.iload 6, 2) := by decide +kernel
theorem dX1_step_143 : decode cX1_step 143 = .ok (.iconst 1, 1) := by decide +kernel
theorem dX1_step_144 : decode cX1_step 144 = .ok (.if_icmp .gt 7, 3) := by decide +kernel
theorem dX1_step_147 : decode cX1_step 147 = .ok (.iconst 1, 1) := by decide +kernel
theorem dX1_step_148 : decode cX1_step 148 = .ok (.goto 4, 3) := by decide +kernel
theorem dX1_step_151 : decode cX1_step 151 = .ok (.iconst 0, 1) := by decide +kernel
theorem dX1_step_152 : decode cX1_step 152 = .ok (.istore 7, 2) := by decide +kernel
theorem dX1_step_154 : decode cX1_step 154 = .ok (.iload 4, 2) := by decide +kernel
theorem dX1_step_156 : decode cX1_step 156 = .ok (.iconst 3, 1) := by decide +kernel
theorem dX1_step_157 : decode cX1_step 157 = .ok (.if_icmp .ne 47, 3) := by decide +kernel
theorem dX1_step_160 : decode cX1_step 160 = .ok (.aload_n 0, 1) := by decide +kernel
theorem dX1_step_161 : decode cX1_step 161 = .ok (.getfield 19, 3) := by decide +kernel
theorem dX1_step_164 : decode cX1_step 164 = .ok (.iconst 0, 1) := by decide +kernel
theorem dX1_step_165 : decode cX1_step 165 = .ok (.iconst 2, 1) := by decide +kernel
theorem dX1_step_166 : decode cX1_step 166 = .ok (.iastore, 1) := by decide +kernel
theorem dX1_step_167 : decode cX1_step 167 = .ok (.aload_n 0, 1) := by decide +kernel
theorem dX1_step_168 : decode cX1_step 168 = .ok (.getfield 16, 3) := by decide +kernel
theorem dX1_step_171 : decode cX1_step 171 = .ok (.iconst 1, 1) := by decide +kernel
theorem dX1_step_172 : decode cX1_step 172 = .ok (.iload 7, 2) := by decide +kernel
theorem dX1_step_174 : decode cX1_step 174 = .ok (.ifCond .eq 23, 3) := by decide +kernel
theorem dX1_step_177 : decode cX1_step 177 = .ok (.aload_n 0, 1) := by decide +kernel
theorem dX1_step_178 : decode cX1_step 178 = .ok (.getfield 16, 3) := by decide +kernel
theorem dX1_step_181 : decode cX1_step 181 = .ok (.iconst 1, 1) := by decide +kernel
theorem dX1_step_182 : decode cX1_step 182 = .ok (.iaload, 1) := by decide +kernel
theorem dX1_step_183 : decode cX1_step 183 = .ok (.ifCond .le 14, 3) := by decide +kernel
theorem dX1_step_186 : decode cX1_step 186 = .ok (.aload_n 0, 1) := by decide +kernel
theorem dX1_step_187 : decode cX1_step 187 = .ok (.getfield 16, 3) := by decide +kernel
theorem dX1_step_190 : decode cX1_step 190 = .ok (.iconst 1, 1) := by decide +kernel
theorem dX1_step_191 : decode cX1_step 191 = .ok (.iaload, 1) := by decide +kernel
theorem dX1_step_192 : decode cX1_step 192 = .ok (.iconst 1, 1) := by decide +kernel
theorem dX1_step_193 : decode cX1_step 193 = .ok (.isub, 1) := by decide +kernel
theorem dX1_step_194 : decode cX1_step 194 = .ok (.goto 9, 3) := by decide +kernel
theorem dX1_step_197 : decode cX1_step 197 = .ok (.aload_n 0, 1) := by decide +kernel
theorem dX1_step_198 : decode cX1_step 198 = .ok (.getfield 16, 3) := by decide +kernel
theorem dX1_step_201 : decode cX1_step 201 = .ok (.iconst 1, 1) := by decide +kernel
theorem dX1_step_202 : decode cX1_step 202 = .ok (.iaload, 1) := by decide +kernel
theorem dX1_step_203 : decode cX1_step 203 = .ok (.iastore, 1) := by decide +kernel
theorem dX1_step_204 : decode cX1_step 204 = .ok (.iload 5, 2) := by decide +kernel
theorem dX1_step_206 : decode cX1_step 206 = .ok (.iconst 3, 1) := by decide +kernel
theorem dX1_step_207 : decode cX1_step 207 = .ok (.if_icmp .ne 47, 3) := by decide +kernel
theorem dX1_step_210 : decode cX1_step 210 = .ok (.aload_n 0, 1) := by decide +kernel
theorem dX1_step_211 : decode cX1_step 211 = .ok (.getfield 19, 3) := by decide +kernel
theorem dX1_step_214 : decode cX1_step 214 = .ok (.iconst 1, 1) := by decide +kernel
theorem dX1_step_215 : decode cX1_step 215 = .ok (.iconst 2, 1) := by decide +kernel
theorem dX1_step_216 : decode cX1_step 216 = .ok (.iastore, 1) := by decide +kernel
theorem dX1_step_217 : decode cX1_step 217 = .ok (.aload_n 0, 1) := by decide +kernel
theorem dX1_step_218 : decode cX1_step 218 = .ok (.getfield 16, 3) := by decide +kernel
theorem dX1_step_221 : decode cX1_step 221 = .ok (.iconst 0, 1) := by decide +kernel
theorem dX1_step_222 : decode cX1_step 222 = .ok (.iload 7, 2) := by decide +kernel
theorem dX1_step_224 : decode cX1_step 224 = .ok (.ifCond .eq 23, 3) := by decide +kernel
theorem dX1_step_227 : decode cX1_step 227 = .ok (.aload_n 0, 1) := by decide +kernel
theorem dX1_step_228 : decode cX1_step 228 = .ok (.getfield 16, 3) := by decide +kernel
theorem dX1_step_231 : decode cX1_step 231 = .ok (.iconst 0, 1) := by decide +kernel
theorem dX1_step_232 : decode cX1_step 232 = .ok (.iaload, 1) := by decide +kernel
theorem dX1_step_233 : decode cX1_step 233 = .ok (.ifCond .le 14, 3) := by decide +kernel
theorem dX1_step_236 : decode cX1_step 236 = .ok (.aload_n 0, 1) := by decide +kernel
theorem dX1_step_237 : decode cX1_step 237 = .ok (.getfield 16, 3) := by decide +kernel
theorem dX1_step_240 : decode cX1_step 240 = .ok (.iconst 0, 1) := by decide +kernel
theorem dX1_step_241 : decode cX1_step 241 = .ok (.iaload, 1) := by decide +kernel
theorem dX1_step_242 : decode cX1_step 242 = .ok (.iconst 1, 1) := by decide +kernel
theorem dX1_step_243 : decode cX1_step 243 = .ok (.isub, 1) := by decide +kernel
theorem dX1_step_244 : decode cX1_step 244 = .ok (.goto 9, 3) := by decide +kernel
theorem dX1_step_247 : decode cX1_step 247 = .ok (.aload_n 0, 1) := by decide +kernel
theorem dX1_step_248 : decode cX1_step 248 = .ok (.getfield 16, 3) := by decide +kernel
theorem dX1_step_251 : decode cX1_step 251 = .ok (.iconst 0, 1) := by decide +kernel
theorem dX1_step_252 : decode cX1_step 252 = .ok (.iaload, 1) := by decide +kernel
theorem dX1_step_253 : decode cX1_step 253 = .ok (.iastore, 1) := by decide +kernel
theorem dX1_step_254 : decode cX1_step 254 = .ok (.return_, 1) := by decide +kernel
abbrev cX1_used : ByteArray := prog_3_method_4_code
def yX1_used : MethodName := ⟨RX1, "used", "(II)I"⟩
theorem dX1_used_0 : decode cX1_used 0 = .ok (.aload_n 0, 1) := by decide +kernel
theorem dX1_used_1 : decode cX1_used 1 = .ok (.getfield 7, 3) := by decide +kernel
theorem dX1_used_4 : decode cX1_used 4 = .ok (.bipush 40, 2) := by decide +kernel
theorem dX1_used_6 : decode cX1_used 6 = .ok (.iload_n 1, 1) := by decide +kernel
theorem dX1_used_7 : decode cX1_used 7 = .ok (.imul, 1) := by decide +kernel
theorem dX1_used_8 : decode cX1_used 8 = .ok (.iload_n 2, 1) := by decide +kernel
theorem dX1_used_9 : decode cX1_used 9 = .ok (.iadd, 1) := by decide +kernel
theorem dX1_used_10 : decode cX1_used 10 = .ok (.iaload, 1) := by decide +kernel
theorem dX1_used_11 : decode cX1_used 11 = .ok (.ifCond .le 17, 3) := by decide +kernel
theorem dX1_used_14 : decode cX1_used 14 = .ok (.aload_n 0, 1) := by decide +kernel
theorem dX1_used_15 : decode cX1_used 15 = .ok (.getfield 7, 3) := by decide +kernel
theorem dX1_used_18 : decode cX1_used 18 = .ok (.bipush 40, 2) := by decide +kernel
theorem dX1_used_20 : decode cX1_used 20 = .ok (.iload_n 1, 1) := by decide +kernel
theorem dX1_used_21 : decode cX1_used 21 = .ok (.imul, 1) := by decide +kernel
theorem dX1_used_22 : decode cX1_used 22 = .ok (.iload_n 2, 1) := by decide +kernel
theorem dX1_used_23 : decode cX1_used 23 = .ok (.iadd, 1) := by decide +kernel
theorem dX1_used_24 : decode cX1_used 24 = .ok (.iaload, 1) := by decide +kernel
theorem dX1_used_25 : decode cX1_used 25 = .ok (.iconst 1, 1) := by decide +kernel
theorem dX1_used_26 : decode cX1_used 26 = .ok (.isub, 1) := by decide +kernel
theorem dX1_used_27 : decode cX1_used 27 = .ok (.ireturn, 1) := by decide +kernel
theorem dX1_used_28 : decode cX1_used 28 = .ok (.iload_n 2, 1) := by decide +kernel
theorem dX1_used_29 : decode cX1_used 29 = .ok (.iconst 1, 1) := by decide +kernel
theorem dX1_used_30 : decode cX1_used 30 = .ok (.isub, 1) := by decide +kernel
theorem dX1_used_31 : decode cX1_used 31 = .ok (.istore_n 3, 1) := by decide +kernel
theorem dX1_used_32 : decode cX1_used 32 = .ok (.iload_n 3, 1) := by decide +kernel
theorem dX1_used_33 : decode cX1_used 33 = .ok (.ifCond .lt 51, 3) := by decide +kernel
theorem dX1_used_36 : decode cX1_used 36 = .ok (.aload_n 0, 1) := by decide +kernel
theorem dX1_used_37 : decode cX1_used 37 = .ok (.getfield 7, 3) := by decide +kernel
theorem dX1_used_40 : decode cX1_used 40 = .ok (.bipush 40, 2) := by decide +kernel
theorem dX1_used_42 : decode cX1_used 42 = .ok (.iload_n 1, 1) := by decide +kernel
theorem dX1_used_43 : decode cX1_used 43 = .ok (.imul, 1) := by decide +kernel
theorem dX1_used_44 : decode cX1_used 44 = .ok (.iload_n 3, 1) := by decide +kernel
theorem dX1_used_45 : decode cX1_used 45 = .ok (.iadd, 1) := by decide +kernel
theorem dX1_used_46 : decode cX1_used 46 = .ok (.iaload, 1) := by decide +kernel
theorem dX1_used_47 : decode cX1_used 47 = .ok (.ifCond .le 31, 3) := by decide +kernel
theorem dX1_used_50 : decode cX1_used 50 = .ok (.aload_n 0, 1) := by decide +kernel
theorem dX1_used_51 : decode cX1_used 51 = .ok (.getfield 7, 3) := by decide +kernel
theorem dX1_used_54 : decode cX1_used 54 = .ok (.bipush 40, 2) := by decide +kernel
theorem dX1_used_56 : decode cX1_used 56 = .ok (.iload_n 1, 1) := by decide +kernel
theorem dX1_used_57 : decode cX1_used 57 = .ok (.imul, 1) := by decide +kernel
theorem dX1_used_58 : decode cX1_used 58 = .ok (.iload_n 3, 1) := by decide +kernel
theorem dX1_used_59 : decode cX1_used 59 = .ok (.iadd, 1) := by decide +kernel
theorem dX1_used_60 : decode cX1_used 60 = .ok (.iaload, 1) := by decide +kernel
theorem dX1_used_61 : decode cX1_used 61 = .ok (.iconst 1, 1) := by decide +kernel
theorem dX1_used_62 : decode cX1_used 62 = .ok (.isub, 1) := by decide +kernel
theorem dX1_used_63 : decode cX1_used 63 = .ok (.istore 4, 2) := by decide +kernel
theorem dX1_used_65 : decode cX1_used 65 = .ok (.iload 4, 2) := by decide +kernel
theorem dX1_used_67 : decode cX1_used 67 = .ok (.iconst 3, 1) := by decide +kernel
theorem dX1_used_68 : decode cX1_used 68 = .ok (.if_icmp .ne 7, 3) := by decide +kernel
theorem dX1_used_71 : decode cX1_used 71 = .ok (.iconst 0, 1) := by decide +kernel
theorem dX1_used_72 : decode cX1_used 72 = .ok (.goto 5, 3) := by decide +kernel
theorem dX1_used_75 : decode cX1_used 75 = .ok (.iload 4, 2) := by decide +kernel
theorem dX1_used_77 : decode cX1_used 77 = .ok (.ireturn, 1) := by decide +kernel
theorem dX1_used_78 : decode cX1_used 78 = .ok (.iinc 3 (-1), 3) := by decide +kernel
theorem dX1_used_81 : decode cX1_used 81 = .ok (.goto (-49), 3) := by decide +kernel
theorem dX1_used_84 : decode cX1_used 84 = .ok (.iconst 0, 1) := by decide +kernel
theorem dX1_used_85 : decode cX1_used 85 = .ok (.ireturn, 1) := by decide +kernel
abbrev cX1_walk : ByteArray := prog_3_method_6_code
def yX1_walk : MethodName := ⟨RX1, "walk", "(II)V"⟩
theorem dX1_walk_0 : decode cX1_walk 0 = .ok (.iload_n 2, 1) := by decide +kernel
theorem dX1_walk_1 : decode cX1_walk 1 = .ok (.iconst 1, 1) := by decide +kernel
theorem dX1_walk_2 : decode cX1_walk 2 = .ok (.if_icmp .ne 14, 3) := by decide +kernel
theorem dX1_walk_5 : decode cX1_walk 5 = .ok (.aload_n 0, 1) := by decide +kernel
theorem dX1_walk_6 : decode cX1_walk 6 = .ok (.getfield 13, 3) := by decide +kernel
theorem dX1_walk_9 : decode cX1_walk 9 = .ok (.iload_n 1, 1) := by decide +kernel
theorem dX1_walk_10 : decode cX1_walk 10 = .ok (.iaload, 1) := by decide +kernel
theorem dX1_walk_11 : decode cX1_walk 11 = .ok (.iconst 1, 1) := by decide +kernel
theorem dX1_walk_12 : decode cX1_walk 12 = .ok (.isub, 1) := by decide +kernel
theorem dX1_walk_13 : decode cX1_walk 13 = .ok (.goto 25, 3) := by decide +kernel
theorem dX1_walk_16 : decode cX1_walk 16 = .ok (.iload_n 2, 1) := by decide +kernel
theorem dX1_walk_17 : decode cX1_walk 17 = .ok (.iconst 2, 1) := by decide +kernel
theorem dX1_walk_18 : decode cX1_walk 18 = .ok (.if_icmp .ne 14, 3) := by decide +kernel
theorem dX1_walk_21 : decode cX1_walk 21 = .ok (.aload_n 0, 1) := by decide +kernel
theorem dX1_walk_22 : decode cX1_walk 22 = .ok (.getfield 13, 3) := by decide +kernel
theorem dX1_walk_25 : decode cX1_walk 25 = .ok (.iload_n 1, 1) := by decide +kernel
theorem dX1_walk_26 : decode cX1_walk 26 = .ok (.iaload, 1) := by decide +kernel
theorem dX1_walk_27 : decode cX1_walk 27 = .ok (.iconst 1, 1) := by decide +kernel
theorem dX1_walk_28 : decode cX1_walk 28 = .ok (.iadd, 1) := by decide +kernel
theorem dX1_walk_29 : decode cX1_walk 29 = .ok (.goto 9, 3) := by decide +kernel
theorem dX1_walk_32 : decode cX1_walk 32 = .ok (.aload_n 0, 1) := by decide +kernel
theorem dX1_walk_33 : decode cX1_walk 33 = .ok (.getfield 13, 3) := by decide +kernel
theorem dX1_walk_36 : decode cX1_walk 36 = .ok (.iload_n 1, 1) := by decide +kernel
theorem dX1_walk_37 : decode cX1_walk 37 = .ok (.iaload, 1) := by decide +kernel
theorem dX1_walk_38 : decode cX1_walk 38 = .ok (.istore_n 3, 1) := by decide +kernel
theorem dX1_walk_39 : decode cX1_walk 39 = .ok (.aload_n 0, 1) := by decide +kernel
theorem dX1_walk_40 : decode cX1_walk 40 = .ok (.getfield 13, 3) := by decide +kernel
theorem dX1_walk_43 : decode cX1_walk 43 = .ok (.iload_n 1, 1) := by decide +kernel
theorem dX1_walk_44 : decode cX1_walk 44 = .ok (.iload_n 3, 1) := by decide +kernel
theorem dX1_walk_45 : decode cX1_walk 45 = .ok (.ifCond .lt 25, 3) := by decide +kernel
theorem dX1_walk_48 : decode cX1_walk 48 = .ok (.iload_n 3, 1) := by decide +kernel
theorem dX1_walk_49 : decode cX1_walk 49 = .ok (.bipush 9, 2) := by decide +kernel
theorem dX1_walk_51 : decode cX1_walk 51 = .ok (.if_icmp .gt 19, 3) := by decide +kernel
theorem dX1_walk_54 : decode cX1_walk 54 = .ok (.iload_n 3, 1) := by decide +kernel
theorem dX1_walk_55 : decode cX1_walk 55 = .ok (.aload_n 0, 1) := by decide +kernel
theorem dX1_walk_56 : decode cX1_walk 56 = .ok (.getfield 13, 3) := by decide +kernel
theorem dX1_walk_59 : decode cX1_walk 59 = .ok (.iconst 1, 1) := by decide +kernel
theorem dX1_walk_60 : decode cX1_walk 60 = .ok (.iload_n 1, 1) := by decide +kernel
theorem dX1_walk_61 : decode cX1_walk 61 = .ok (.isub, 1) := by decide +kernel
theorem dX1_walk_62 : decode cX1_walk 62 = .ok (.iaload, 1) := by decide +kernel
theorem dX1_walk_63 : decode cX1_walk 63 = .ok (.if_icmp .eq 7, 3) := by decide +kernel
theorem dX1_walk_66 : decode cX1_walk 66 = .ok (.iload_n 3, 1) := by decide +kernel
theorem dX1_walk_67 : decode cX1_walk 67 = .ok (.goto 9, 3) := by decide +kernel
theorem dX1_walk_70 : decode cX1_walk 70 = .ok (.aload_n 0, 1) := by decide +kernel
theorem dX1_walk_71 : decode cX1_walk 71 = .ok (.getfield 13, 3) := by decide +kernel
theorem dX1_walk_74 : decode cX1_walk 74 = .ok (.iload_n 1, 1) := by decide +kernel
theorem dX1_walk_75 : decode cX1_walk 75 = .ok (.iaload, 1) := by decide +kernel
theorem dX1_walk_76 : decode cX1_walk 76 = .ok (.iastore, 1) := by decide +kernel
theorem dX1_walk_77 : decode cX1_walk 77 = .ok (.return_, 1) := by decide +kernel
abbrev cX1_tick : ByteArray := prog_3_method_11_code
def yX1_tick : MethodName := ⟨RX1, "tick", "()I"⟩
theorem dX1_tick_0 : decode cX1_tick 0 = .ok (.aload_n 0, 1) := by decide +kernel
theorem dX1_tick_1 : decode cX1_tick 1 = .ok (.getfield 52, 3) := by decide +kernel
theorem dX1_tick_4 : decode cX1_tick 4 = .ok (.bipush 40, 2) := by decide +kernel
theorem dX1_tick_6 : decode cX1_tick 6 = .ok (.if_icmp .lt 5, 3) := by decide +kernel
theorem dX1_tick_9 : decode cX1_tick 9 = .ok (.iconst (-1), 1) := by decide +kernel
theorem dX1_tick_10 : decode cX1_tick 10 = .ok (.ireturn, 1) := by decide +kernel
theorem dX1_tick_11 : decode cX1_tick 11 = .ok (.aload_n 0, 1) := by decide +kernel
theorem dX1_tick_12 : decode cX1_tick 12 = .ok (.dup, 1) := by decide +kernel
theorem dX1_tick_13 : decode cX1_tick 13 = .ok (.getfield 52, 3) := by decide +kernel
theorem dX1_tick_16 : decode cX1_tick 16 = .ok (.iconst 1, 1) := by decide +kernel
theorem dX1_tick_17 : decode cX1_tick 17 = .ok (.iadd, 1) := by decide +kernel
theorem dX1_tick_18 : decode cX1_tick 18 = .ok (.putfield 52, 3) := by decide +kernel
theorem dX1_tick_21 : decode cX1_tick 21 = .ok (.aload_n 0, 1) := by decide +kernel
theorem dX1_tick_22 : decode cX1_tick 22 = .ok (.getfield 52, 3) := by decide +kernel
theorem dX1_tick_25 : decode cX1_tick 25 = .ok (.ireturn, 1) := by decide +kernel
abbrev cX1_played : ByteArray := prog_3_method_12_code
def yX1_played : MethodName := ⟨RX1, "played", "()I"⟩
theorem dX1_played_0 : decode cX1_played 0 = .ok (.aload_n 0, 1) := by decide +kernel
theorem dX1_played_1 : decode cX1_played 1 = .ok (.getfield 52, 3) := by decide +kernel
theorem dX1_played_4 : decode cX1_played 4 = .ok (.ireturn, 1) := by decide +kernel
abbrev cX1_sure : ByteArray := prog_3_method_13_code
def yX1_sure : MethodName := ⟨RX1, "sure", "()I"⟩
theorem dX1_sure_0 : decode cX1_sure 0 = .ok (.iconst 0, 1) := by decide +kernel
theorem dX1_sure_1 : decode cX1_sure 1 = .ok (.istore_n 1, 1) := by decide +kernel
theorem dX1_sure_2 : decode cX1_sure 2 = .ok (.iload_n 1, 1) := by decide +kernel
theorem dX1_sure_3 : decode cX1_sure 3 = .ok (.bipush 40, 2) := by decide +kernel
theorem dX1_sure_5 : decode cX1_sure 5 = .ok (.if_icmp .ge 30, 3) := by decide +kernel
theorem dX1_sure_8 : decode cX1_sure 8 = .ok (.aload_n 0, 1) := by decide +kernel
theorem dX1_sure_9 : decode cX1_sure 9 = .ok (.getfield 7, 3) := by decide +kernel
theorem dX1_sure_12 : decode cX1_sure 12 = .ok (.iload_n 1, 1) := by decide +kernel
theorem dX1_sure_13 : decode cX1_sure 13 = .ok (.iaload, 1) := by decide +kernel
theorem dX1_sure_14 : decode cX1_sure 14 = .ok (.ifCond .le 21, 3) := by decide +kernel
theorem dX1_sure_17 : decode cX1_sure 17 = .ok (.aload_n 0, 1) := by decide +kernel
theorem dX1_sure_18 : decode cX1_sure 18 = .ok (.getfield 7, 3) := by decide +kernel
theorem dX1_sure_21 : decode cX1_sure 21 = .ok (.bipush 40, 2) := by decide +kernel
theorem dX1_sure_23 : decode cX1_sure 23 = .ok (.iload_n 1, 1) := by decide +kernel
theorem dX1_sure_24 : decode cX1_sure 24 = .ok (.iadd, 1) := by decide +kernel
theorem dX1_sure_25 : decode cX1_sure 25 = .ok (.iaload, 1) := by decide +kernel
theorem dX1_sure_26 : decode cX1_sure 26 = .ok (.ifCond .le 9, 3) := by decide +kernel
theorem dX1_sure_29 : decode cX1_sure 29 = .ok (.iinc 1 1, 3) := by decide +kernel
theorem dX1_sure_32 : decode cX1_sure 32 = .ok (.goto (-30), 3) := by decide +kernel
theorem dX1_sure_35 : decode cX1_sure 35 = .ok (.iload_n 1, 1) := by decide +kernel
theorem dX1_sure_36 : decode cX1_sure 36 = .ok (.ireturn, 1) := by decide +kernel
abbrev cX1_position : ByteArray := prog_3_method_14_code
def yX1_position : MethodName := ⟨RX1, "position", "(I)I"⟩
theorem dX1_position_0 : decode cX1_position 0 = .ok (.aload_n 0, 1) := by decide +kernel
theorem dX1_position_1 : decode cX1_position 1 = .ok (.aload_n 0, 1) := by decide +kernel
theorem dX1_position_2 : decode cX1_position 2 = .ok (.getfield 52, 3) := by decide +kernel
theorem dX1_position_5 : decode cX1_position 5 = .ok (.invokevirtual 41, 3) := by decide +kernel
theorem dX1_position_8 : decode cX1_position 8 = .ok (.aload_n 0, 1) := by decide +kernel
theorem dX1_position_9 : decode cX1_position 9 = .ok (.iload_n 1, 1) := by decide +kernel
theorem dX1_position_10 : decode cX1_position 10 = .ok (.invokevirtual 45, 3) := by decide +kernel
theorem dX1_position_13 : decode cX1_position 13 = .ok (.ifCond .eq 12, 3) := by decide +kernel
theorem dX1_position_16 : decode cX1_position 16 = .ok (.aload_n 0, 1) := by decide +kernel
theorem dX1_position_17 : decode cX1_position 17 = .ok (.getfield 13, 3) := by decide +kernel
theorem dX1_position_20 : decode cX1_position 20 = .ok (.iload_n 1, 1) := by decide +kernel
theorem dX1_position_21 : decode cX1_position 21 = .ok (.iaload, 1) := by decide +kernel
theorem dX1_position_22 : decode cX1_position 22 = .ok (.goto 4, 3) := by decide +kernel
theorem dX1_position_25 : decode cX1_position 25 = .ok (.iconst (-1), 1) := by decide +kernel
theorem dX1_position_26 : decode cX1_position 26 = .ok (.ireturn, 1) := by decide +kernel
abbrev cX1_strength : ByteArray := prog_3_method_15_code
def yX1_strength : MethodName := ⟨RX1, "strength", "(I)I"⟩
theorem dX1_strength_0 : decode cX1_strength 0 = .ok (.aload_n 0, 1) := by decide +kernel
theorem dX1_strength_1 : decode cX1_strength 1 = .ok (.aload_n 0, 1) := by decide +kernel
theorem dX1_strength_2 : decode cX1_strength 2 = .ok (.getfield 52, 3) := by decide +kernel
theorem dX1_strength_5 : decode cX1_strength 5 = .ok (.invokevirtual 41, 3) := by decide +kernel
theorem dX1_strength_8 : decode cX1_strength 8 = .ok (.aload_n 0, 1) := by decide +kernel
theorem dX1_strength_9 : decode cX1_strength 9 = .ok (.iload_n 1, 1) := by decide +kernel
theorem dX1_strength_10 : decode cX1_strength 10 = .ok (.invokevirtual 45, 3) := by decide +kernel
theorem dX1_strength_13 : decode cX1_strength 13 = .ok (.ifCond .eq 12, 3) := by decide +kernel
theorem dX1_strength_16 : decode cX1_strength 16 = .ok (.aload_n 0, 1) := by decide +kernel
theorem dX1_strength_17 : decode cX1_strength 17 = .ok (.getfield 16, 3) := by decide +kernel
theorem dX1_strength_20 : decode cX1_strength 20 = .ok (.iload_n 1, 1) := by decide +kernel
theorem dX1_strength_21 : decode cX1_strength 21 = .ok (.iaload, 1) := by decide +kernel
theorem dX1_strength_22 : decode cX1_strength 22 = .ok (.goto 4, 3) := by decide +kernel
theorem dX1_strength_25 : decode cX1_strength 25 = .ok (.iconst (-1), 1) := by decide +kernel
theorem dX1_strength_26 : decode cX1_strength 26 = .ok (.ireturn, 1) := by decide +kernel
abbrev cX1_pause : ByteArray := prog_3_method_16_code
def yX1_pause : MethodName := ⟨RX1, "pause", "(I)I"⟩
theorem dX1_pause_0 : decode cX1_pause 0 = .ok (.aload_n 0, 1) := by decide +kernel
theorem dX1_pause_1 : decode cX1_pause 1 = .ok (.aload_n 0, 1) := by decide +kernel
theorem dX1_pause_2 : decode cX1_pause 2 = .ok (.getfield 52, 3) := by decide +kernel
theorem dX1_pause_5 : decode cX1_pause 5 = .ok (.invokevirtual 41, 3) := by decide +kernel
theorem dX1_pause_8 : decode cX1_pause 8 = .ok (.aload_n 0, 1) := by decide +kernel
theorem dX1_pause_9 : decode cX1_pause 9 = .ok (.iload_n 1, 1) := by decide +kernel
theorem dX1_pause_10 : decode cX1_pause 10 = .ok (.invokevirtual 45, 3) := by decide +kernel
theorem dX1_pause_13 : decode cX1_pause 13 = .ok (.ifCond .eq 12, 3) := by decide +kernel
theorem dX1_pause_16 : decode cX1_pause 16 = .ok (.aload_n 0, 1) := by decide +kernel
theorem dX1_pause_17 : decode cX1_pause 17 = .ok (.getfield 19, 3) := by decide +kernel
theorem dX1_pause_20 : decode cX1_pause 20 = .ok (.iload_n 1, 1) := by decide +kernel
theorem dX1_pause_21 : decode cX1_pause 21 = .ok (.iaload, 1) := by decide +kernel
theorem dX1_pause_22 : decode cX1_pause 22 = .ok (.goto 4, 3) := by decide +kernel
theorem dX1_pause_25 : decode cX1_pause 25 = .ok (.iconst (-1), 1) := by decide +kernel
theorem dX1_pause_26 : decode cX1_pause 26 = .ok (.ireturn, 1) := by decide +kernel
abbrev cX1_shown : ByteArray := prog_3_method_17_code
def yX1_shown : MethodName := ⟨RX1, "shown", "(I)I"⟩
theorem dX1_shown_0 : decode cX1_shown 0 = .ok (.iload_n 1, 1) := by decide +kernel
theorem dX1_shown_1 : decode cX1_shown 1 = .ok (.ifCond .lt 9, 3) := by decide +kernel
theorem dX1_shown_4 : decode cX1_shown 4 = .ok (.iload_n 1, 1) := by decide +kernel
theorem dX1_shown_5 : decode cX1_shown 5 = .ok (.bipush 40, 2) := by decide +kernel
theorem dX1_shown_7 : decode cX1_shown 7 = .ok (.if_icmp .le 7, 3) := by decide +kernel
theorem dX1_shown_10 : decode cX1_shown 10 = .ok (.iconst (-1), 1) := by decide +kernel
theorem dX1_shown_11 : decode cX1_shown 11 = .ok (.goto 8, 3) := by decide +kernel
theorem dX1_shown_14 : decode cX1_shown 14 = .ok (.aload_n 0, 1) := by decide +kernel
theorem dX1_shown_15 : decode cX1_shown 15 = .ok (.iload_n 1, 1) := by decide +kernel
theorem dX1_shown_16 : decode cX1_shown 16 = .ok (.invokevirtual 56, 3) := by decide +kernel
theorem dX1_shown_19 : decode cX1_shown 19 = .ok (.ireturn, 1) := by decide +kernel
abbrev cX1_move : ByteArray := prog_3_method_18_code
def yX1_move : MethodName := ⟨RX1, "move", "(II)I"⟩
theorem dX1_move_0 : decode cX1_move 0 = .ok (.aload_n 0, 1) := by decide +kernel
theorem dX1_move_1 : decode cX1_move 1 = .ok (.iload_n 1, 1) := by decide +kernel
theorem dX1_move_2 : decode cX1_move 2 = .ok (.invokevirtual 45, 3) := by decide +kernel
theorem dX1_move_5 : decode cX1_move 5 = .ok (.ifCond .eq 20, 3) := by decide +kernel
theorem dX1_move_8 : decode cX1_move 8 = .ok (.aload_n 0, 1) := by decide +kernel
theorem dX1_move_9 : decode cX1_move 9 = .ok (.iload_n 2, 1) := by decide +kernel
theorem dX1_move_10 : decode cX1_move 10 = .ok (.invokevirtual 49, 3) := by decide +kernel
theorem dX1_move_13 : decode cX1_move 13 = .ok (.ifCond .eq 12, 3) := by decide +kernel
theorem dX1_move_16 : decode cX1_move 16 = .ok (.aload_n 0, 1) := by decide +kernel
theorem dX1_move_17 : decode cX1_move 17 = .ok (.iload_n 1, 1) := by decide +kernel
theorem dX1_move_18 : decode cX1_move 18 = .ok (.iload_n 2, 1) := by decide +kernel
theorem dX1_move_19 : decode cX1_move 19 = .ok (.invokevirtual 25, 3) := by decide +kernel
theorem dX1_move_22 : decode cX1_move 22 = .ok (.goto 4, 3) := by decide +kernel
theorem dX1_move_25 : decode cX1_move 25 = .ok (.iconst (-1), 1) := by decide +kernel
theorem dX1_move_26 : decode cX1_move 26 = .ok (.ireturn, 1) := by decide +kernel
abbrev cX1_missing : ByteArray := prog_3_method_19_code
def yX1_missing : MethodName := ⟨RX1, "missing", "(I)I"⟩
theorem dX1_missing_0 : decode cX1_missing 0 = .ok (.iconst 0, 1) := by decide +kernel
theorem dX1_missing_1 : decode cX1_missing 1 = .ok (.istore_n 2, 1) := by decide +kernel
theorem dX1_missing_2 : decode cX1_missing 2 = .ok (.iload_n 2, 1) := by decide +kernel
theorem dX1_missing_3 : decode cX1_missing 3 = .ok (.bipush 40, 2) := by decide +kernel
theorem dX1_missing_5 : decode cX1_missing 5 = .ok (.if_icmp .ge 33, 3) := by decide +kernel
theorem dX1_missing_8 : decode cX1_missing 8 = .ok (.aload_n 0, 1) := by decide +kernel
theorem dX1_missing_9 : decode cX1_missing 9 = .ok (.iload_n 1, 1) := by decide +kernel
theorem dX1_missing_10 : decode cX1_missing 10 = .ok (.invokevirtual 45, 3) := by decide +kernel
theorem dX1_missing_13 : decode cX1_missing 13 = .ok (.ifCond .eq 25, 3) := by decide +kernel
theorem dX1_missing_16 : decode cX1_missing 16 = .ok (.aload_n 0, 1) := by decide +kernel
theorem dX1_missing_17 : decode cX1_missing 17 = .ok (.getfield 7, 3) := by decide +kernel
theorem dX1_missing_20 : decode cX1_missing 20 = .ok (.bipush 40, 2) := by decide +kernel
theorem dX1_missing_22 : decode cX1_missing 22 = .ok (.iload_n 1, 1) := by decide +kernel
theorem dX1_missing_23 : decode cX1_missing 23 = .ok (.imul, 1) := by decide +kernel
theorem dX1_missing_24 : decode cX1_missing 24 = .ok (.iload_n 2, 1) := by decide +kernel
theorem dX1_missing_25 : decode cX1_missing 25 = .ok (.iadd, 1) := by decide +kernel
theorem dX1_missing_26 : decode cX1_missing 26 = .ok (.iaload, 1) := by decide +kernel
theorem dX1_missing_27 : decode cX1_missing 27 = .ok (.ifCond .ne 5, 3) := by decide +kernel
theorem dX1_missing_30 : decode cX1_missing 30 = .ok (.iload_n 2, 1) := by decide +kernel
theorem dX1_missing_31 : decode cX1_missing 31 = .ok (.ireturn, 1) := by decide +kernel
theorem dX1_missing_32 : decode cX1_missing 32 = .ok (.iinc 2 1, 3) := by decide +kernel
theorem dX1_missing_35 : decode cX1_missing 35 = .ok (.goto (-33), 3) := by decide +kernel
theorem dX1_missing_38 : decode cX1_missing 38 = .ok (.aload_n 0, 1) := by decide +kernel
theorem dX1_missing_39 : decode cX1_missing 39 = .ok (.iload_n 1, 1) := by decide +kernel
theorem dX1_missing_40 : decode cX1_missing 40 = .ok (.invokevirtual 45, 3) := by decide +kernel
theorem dX1_missing_43 : decode cX1_missing 43 = .ok (.ifCond .eq 8, 3) := by decide +kernel
theorem dX1_missing_46 : decode cX1_missing 46 = .ok (.bipush (-2), 2) := by decide +kernel
theorem dX1_missing_48 : decode cX1_missing 48 = .ok (.goto 4, 3) := by decide +kernel
theorem dX1_missing_51 : decode cX1_missing 51 = .ok (.iconst (-1), 1) := by decide +kernel
theorem dX1_missing_52 : decode cX1_missing 52 = .ok (.ireturn, 1) := by decide +kernel
abbrev cX1_winner : ByteArray := prog_3_method_20_code
def yX1_winner : MethodName := ⟨RX1, "winner", "(I)I"⟩
theorem dX1_winner_0 : decode cX1_winner 0 = .ok (.iload_n 1, 1) := by decide +kernel
theorem dX1_winner_1 : decode cX1_winner 1 = .ok (.ifCond .lt 9, 3) := by decide +kernel
theorem dX1_winner_4 : decode cX1_winner 4 = .ok (.iload_n 1, 1) := by decide +kernel
theorem dX1_winner_5 : decode cX1_winner 5 = .ok (.bipush 40, 2) := by decide +kernel
theorem dX1_winner_7 : decode cX1_winner 7 = .ok (.if_icmp .le 5, 3) := by decide +kernel
theorem dX1_winner_10 : decode cX1_winner 10 = .ok (.iconst (-1), 1) := by decide +kernel
theorem dX1_winner_11 : decode cX1_winner 11 = .ok (.ireturn, 1) := by decide +kernel
theorem dX1_winner_12 : decode cX1_winner 12 = .ok (.aload_n 0, 1) := by decide +kernel
theorem dX1_winner_13 : decode cX1_winner 13 = .ok (.iload_n 1, 1) := by decide +kernel
theorem dX1_winner_14 : decode cX1_winner 14 = .ok (.invokevirtual 41, 3) := by decide +kernel
theorem dX1_winner_17 : decode cX1_winner 17 = .ok (.aload_n 0, 1) := by decide +kernel
theorem dX1_winner_18 : decode cX1_winner 18 = .ok (.invokevirtual 33, 3) := by decide +kernel
theorem dX1_winner_21 : decode cX1_winner 21 = .ok (.ifCond .ne 8, 3) := by decide +kernel
theorem dX1_winner_24 : decode cX1_winner 24 = .ok (.bipush (-2), 2) := by decide +kernel
theorem dX1_winner_26 : decode cX1_winner 26 = .ok (.goto 30, 3) := by decide +kernel
theorem dX1_winner_29 : decode cX1_winner 29 = .ok (.aload_n 0, 1) := by decide +kernel
theorem dX1_winner_30 : decode cX1_winner 30 = .ok (.getfield 16, 3) := by decide +kernel
theorem dX1_winner_33 : decode cX1_winner 33 = .ok (.iconst 0, 1) := by decide +kernel
theorem dX1_winner_34 : decode cX1_winner 34 = .ok (.iaload, 1) := by decide +kernel
theorem dX1_winner_35 : decode cX1_winner 35 = .ok (.ifCond .le 7, 3) := by decide +kernel
theorem dX1_winner_38 : decode cX1_winner 38 = .ok (.iconst 0, 1) := by decide +kernel
theorem dX1_winner_39 : decode cX1_winner 39 = .ok (.goto 17, 3) := by decide +kernel
theorem dX1_winner_42 : decode cX1_winner 42 = .ok (.aload_n 0, 1) := by decide +kernel
theorem dX1_winner_43 : decode cX1_winner 43 = .ok (.getfield 16, 3) := by decide +kernel
theorem dX1_winner_46 : decode cX1_winner 46 = .ok (.iconst 1, 1) := by decide +kernel
theorem dX1_winner_47 : decode cX1_winner 47 = .ok (.iaload, 1) := by decide +kernel
theorem dX1_winner_48 : decode cX1_winner 48 = .ok (.ifCond .le 7, 3) := by decide +kernel
theorem dX1_winner_51 : decode cX1_winner 51 = .ok (.iconst 1, 1) := by decide +kernel
theorem dX1_winner_52 : decode cX1_winner 52 = .ok (.goto 4, 3) := by decide +kernel
theorem dX1_winner_55 : decode cX1_winner 55 = .ok (.iconst 2, 1) := by decide +kernel
theorem dX1_winner_56 : decode cX1_winner 56 = .ok (.ireturn, 1) := by decide +kernel
abbrev cX1_overAfter : ByteArray := prog_3_method_21_code
def yX1_overAfter : MethodName := ⟨RX1, "overAfter", "()I"⟩
theorem dX1_overAfter_0 : decode cX1_overAfter 0 = .ok (.iconst 0, 1) := by decide +kernel
theorem dX1_overAfter_1 : decode cX1_overAfter 1 = .ok (.istore_n 1, 1) := by decide +kernel
theorem dX1_overAfter_2 : decode cX1_overAfter 2 = .ok (.iload_n 1, 1) := by decide +kernel
theorem dX1_overAfter_3 : decode cX1_overAfter 3 = .ok (.bipush 40, 2) := by decide +kernel
theorem dX1_overAfter_5 : decode cX1_overAfter 5 = .ok (.if_icmp .gt 23, 3) := by decide +kernel
theorem dX1_overAfter_8 : decode cX1_overAfter 8 = .ok (.aload_n 0, 1) := by decide +kernel
theorem dX1_overAfter_9 : decode cX1_overAfter 9 = .ok (.iload_n 1, 1) := by decide +kernel
theorem dX1_overAfter_10 : decode cX1_overAfter 10 = .ok (.invokevirtual 41, 3) := by decide +kernel
theorem dX1_overAfter_13 : decode cX1_overAfter 13 = .ok (.aload_n 0, 1) := by decide +kernel
theorem dX1_overAfter_14 : decode cX1_overAfter 14 = .ok (.invokevirtual 33, 3) := by decide +kernel
theorem dX1_overAfter_17 : decode cX1_overAfter 17 = .ok (.ifCond .eq 5, 3) := by decide +kernel
theorem dX1_overAfter_20 : decode cX1_overAfter 20 = .ok (.iload_n 1, 1) := by decide +kernel
theorem dX1_overAfter_21 : decode cX1_overAfter 21 = .ok (.ireturn, 1) := by decide +kernel
theorem dX1_overAfter_22 : decode cX1_overAfter 22 = .ok (.iinc 1 1, 3) := by decide +kernel
theorem dX1_overAfter_25 : decode cX1_overAfter 25 = .ok (.goto (-23), 3) := by decide +kernel
theorem dX1_overAfter_28 : decode cX1_overAfter 28 = .ok (.bipush (-2), 2) := by decide +kernel
theorem dX1_overAfter_30 : decode cX1_overAfter 30 = .ok (.ireturn, 1) := by decide +kernel
abbrev cX1_settled : ByteArray := prog_3_method_22_code
def yX1_settled : MethodName := ⟨RX1, "settled", "()Z"⟩
theorem dX1_settled_0 : decode cX1_settled 0 = .ok (.aload_n 0, 1) := by decide +kernel
theorem dX1_settled_1 : decode cX1_settled 1 = .ok (.invokevirtual 60, 3) := by decide +kernel
theorem dX1_settled_4 : decode cX1_settled 4 = .ok (.istore_n 1, 1) := by decide +kernel
theorem dX1_settled_5 : decode cX1_settled 5 = .ok (.aload_n 0, 1) := by decide +kernel
theorem dX1_settled_6 : decode cX1_settled 6 = .ok (.iload_n 1, 1) := by decide +kernel
theorem dX1_settled_7 : decode cX1_settled 7 = .ok (.invokevirtual 41, 3) := by decide +kernel
theorem dX1_settled_10 : decode cX1_settled 10 = .ok (.aload_n 0, 1) := by decide +kernel
theorem dX1_settled_11 : decode cX1_settled 11 = .ok (.getfield 52, 3) := by decide +kernel
theorem dX1_settled_14 : decode cX1_settled 14 = .ok (.iload_n 1, 1) := by decide +kernel
theorem dX1_settled_15 : decode cX1_settled 15 = .ok (.if_icmp .le 10, 3) := by decide +kernel
theorem dX1_settled_18 : decode cX1_settled 18 = .ok (.aload_n 0, 1) := by decide +kernel
theorem dX1_settled_19 : decode cX1_settled 19 = .ok (.invokevirtual 33, 3) := by decide +kernel
theorem dX1_settled_22 : decode cX1_settled 22 = .ok (.ifCond .eq 7, 3) := by decide +kernel
theorem dX1_settled_25 : decode cX1_settled 25 = .ok (.iconst 1, 1) := by decide +kernel
theorem dX1_settled_26 : decode cX1_settled 26 = .ok (.goto 4, 3) := by decide +kernel
theorem dX1_settled_29 : decode cX1_settled 29 = .ok (.iconst 0, 1) := by decide +kernel
theorem dX1_settled_30 : decode cX1_settled 30 = .ok (.ireturn, 1) := by decide +kernel
theorem q19 : (Jvm.Cond.initialized "RollbackGameModel") ∈ lw_all := lw_g (lw_at lw_m1 2 rfl) rfl
theorem q153 : (Jvm.Cond.instantiable "RollbackGameModel" (6 : Nat)) ∈ lw_all := lw_g (lw_at lw_m1 136 rfl) rfl
theorem q155 : (Jvm.Cond.instanceMethod ({ cls := "RollbackGameModel", name := "<init>", desc := "()V" } : Jvm.MethodName)) ∈ lw_all := lw_g (lw_at lw_m1 138 rfl) rfl
theorem q156 : (Jvm.Cond.code ({ cls := "RollbackGameModel", name := "<init>", desc := "()V" } : Jvm.MethodName) prog_3_method_1_code (1 : Nat) (Option.none : Option Jvm.ClassFile.FieldType)) ∈ lw_all := lw_g (lw_at lw_m1 139 rfl) rfl
theorem q157 : (Jvm.Cond.methodLink "RollbackGameModel" (1 : Nat) ({ cls := "java/lang/Object", name := "<init>", desc := "()V" } : Jvm.MethodName)) ∈ lw_all := lw_g (lw_at lw_m1 140 rfl) rfl
theorem q158 : (Jvm.Cond.fieldLink "RollbackGameModel" (7 : Nat) "RollbackGameModel" "moves" "[I") ∈ lw_all := lw_g (lw_at lw_m1 141 rfl) rfl
theorem q159 : (Jvm.Cond.fieldLink "RollbackGameModel" (52 : Nat) "RollbackGameModel" "done" "I") ∈ lw_all := lw_g (lw_at lw_m1 142 rfl) rfl
theorem q160 : (Jvm.Cond.fieldLink "RollbackGameModel" (13 : Nat) "RollbackGameModel" "place" "[I") ∈ lw_all := lw_g (lw_at lw_m1 143 rfl) rfl
theorem q161 : (Jvm.Cond.fieldLink "RollbackGameModel" (16 : Nat) "RollbackGameModel" "points" "[I") ∈ lw_all := lw_g (lw_at lw_m1 144 rfl) rfl
theorem q162 : (Jvm.Cond.fieldLink "RollbackGameModel" (19 : Nat) "RollbackGameModel" "pauses" "[I") ∈ lw_all := lw_g (lw_at lw_m1 145 rfl) rfl
theorem q163 : (Jvm.Cond.fieldLink "RollbackGameModel" (22 : Nat) "RollbackGameModel" "before" "[I") ∈ lw_all := lw_g (lw_at lw_m1 146 rfl) rfl
theorem q164 : (Jvm.Cond.lays "RollbackGameModel" "RollbackGameModel" "moves" "[I") ∈ lw_all := lw_g (lw_at lw_m1 147 rfl) rfl
theorem q165 : (Jvm.Cond.soleField "RollbackGameModel" "moves") ∈ lw_all := lw_g (lw_at lw_m1 148 rfl) rfl
theorem q166 : (Jvm.Cond.lays "RollbackGameModel" "RollbackGameModel" "done" "I") ∈ lw_all := lw_g (lw_at lw_m1 149 rfl) rfl
theorem q167 : (Jvm.Cond.soleField "RollbackGameModel" "done") ∈ lw_all := lw_g (lw_at lw_m1 150 rfl) rfl
theorem q168 : (Jvm.Cond.lays "RollbackGameModel" "RollbackGameModel" "place" "[I") ∈ lw_all := lw_g (lw_at lw_m1 151 rfl) rfl
theorem q169 : (Jvm.Cond.soleField "RollbackGameModel" "place") ∈ lw_all := lw_g (lw_at lw_m1 152 rfl) rfl
theorem q170 : (Jvm.Cond.lays "RollbackGameModel" "RollbackGameModel" "points" "[I") ∈ lw_all := lw_g (lw_at lw_m1 153 rfl) rfl
theorem q171 : (Jvm.Cond.soleField "RollbackGameModel" "points") ∈ lw_all := lw_g (lw_at lw_m1 154 rfl) rfl
theorem q172 : (Jvm.Cond.lays "RollbackGameModel" "RollbackGameModel" "pauses" "[I") ∈ lw_all := lw_g (lw_at lw_m1 155 rfl) rfl
theorem q173 : (Jvm.Cond.soleField "RollbackGameModel" "pauses") ∈ lw_all := lw_g (lw_at lw_m1 156 rfl) rfl
theorem q174 : (Jvm.Cond.lays "RollbackGameModel" "RollbackGameModel" "before" "[I") ∈ lw_all := lw_g (lw_at lw_m1 157 rfl) rfl
theorem q175 : (Jvm.Cond.soleField "RollbackGameModel" "before") ∈ lw_all := lw_g (lw_at lw_m1 158 rfl) rfl
theorem q176 : (Jvm.Cond.superclass "RollbackGameModel" "java/lang/Object") ∈ lw_all := lw_g (lw_at lw_m1 159 rfl) rfl
theorem q178 : (Jvm.Cond.instanceMethod ({ cls := "RollbackGameModel", name := "arrive", desc := "(III)I" } : Jvm.MethodName)) ∈ lw_all := lw_g (lw_at lw_m1 161 rfl) rfl
theorem q179 : (Jvm.Cond.selects "RollbackGameModel" ({ cls := "RollbackGameModel", name := "arrive", desc := "(III)I" } : Jvm.MethodName) ({ cls := "RollbackGameModel", name := "arrive", desc := "(III)I" } : Jvm.MethodName)) ∈ lw_all := lw_g (lw_at lw_m1 162 rfl) rfl
theorem q180 : (Jvm.Cond.code ({ cls := "RollbackGameModel", name := "arrive", desc := "(III)I" } : Jvm.MethodName) prog_3_method_10_code (6 : Nat) (Option.some Jvm.ClassFile.FieldType.int)) ∈ lw_all := lw_g (lw_at lw_m1 163 rfl) rfl
theorem q181 : (Jvm.Cond.methodLink "RollbackGameModel" (45 : Nat) ({ cls := "RollbackGameModel", name := "player", desc := "(I)Z" } : Jvm.MethodName)) ∈ lw_all := lw_g (lw_at lw_m1 164 rfl) rfl
theorem q182 : (Jvm.Cond.privateMethod ({ cls := "RollbackGameModel", name := "player", desc := "(I)Z" } : Jvm.MethodName)) ∈ lw_tbl := lw_at lw_m1 165 rfl
theorem q183 : (Jvm.Cond.instanceMethod ({ cls := "RollbackGameModel", name := "player", desc := "(I)Z" } : Jvm.MethodName)) ∈ lw_all := lw_g (lw_at lw_m1 166 rfl) rfl
theorem q184 : (Jvm.Cond.code ({ cls := "RollbackGameModel", name := "player", desc := "(I)Z" } : Jvm.MethodName) prog_3_method_2_code (2 : Nat) (Option.some Jvm.ClassFile.FieldType.boolean)) ∈ lw_all := lw_g (lw_at lw_m1 167 rfl) rfl
theorem q185 : (Jvm.Cond.methodLink "RollbackGameModel" (49 : Nat) ({ cls := "RollbackGameModel", name := "frame", desc := "(I)Z" } : Jvm.MethodName)) ∈ lw_all := lw_g (lw_at lw_m1 168 rfl) rfl
theorem q186 : (Jvm.Cond.privateMethod ({ cls := "RollbackGameModel", name := "frame", desc := "(I)Z" } : Jvm.MethodName)) ∈ lw_tbl := lw_at lw_m1 169 rfl
theorem q187 : (Jvm.Cond.instanceMethod ({ cls := "RollbackGameModel", name := "frame", desc := "(I)Z" } : Jvm.MethodName)) ∈ lw_all := lw_g (lw_at lw_m1 170 rfl) rfl
theorem q188 : (Jvm.Cond.code ({ cls := "RollbackGameModel", name := "frame", desc := "(I)Z" } : Jvm.MethodName) prog_3_method_3_code (2 : Nat) (Option.some Jvm.ClassFile.FieldType.boolean)) ∈ lw_all := lw_g (lw_at lw_m1 171 rfl) rfl
theorem q189 : (Jvm.Cond.methodLink "RollbackGameModel" (56 : Nat) ({ cls := "RollbackGameModel", name := "picture", desc := "(I)I" } : Jvm.MethodName)) ∈ lw_all := lw_g (lw_at lw_m1 172 rfl) rfl
theorem q190 : (Jvm.Cond.privateMethod ({ cls := "RollbackGameModel", name := "picture", desc := "(I)I" } : Jvm.MethodName)) ∈ lw_tbl := lw_at lw_m1 173 rfl
theorem q191 : (Jvm.Cond.instanceMethod ({ cls := "RollbackGameModel", name := "picture", desc := "(I)I" } : Jvm.MethodName)) ∈ lw_all := lw_g (lw_at lw_m1 174 rfl) rfl
theorem q192 : (Jvm.Cond.code ({ cls := "RollbackGameModel", name := "picture", desc := "(I)I" } : Jvm.MethodName) prog_3_method_9_code (2 : Nat) (Option.some Jvm.ClassFile.FieldType.int)) ∈ lw_all := lw_g (lw_at lw_m1 175 rfl) rfl
theorem q193 : (Jvm.Cond.methodLink "RollbackGameModel" (41 : Nat) ({ cls := "RollbackGameModel", name := "play", desc := "(I)V" } : Jvm.MethodName)) ∈ lw_all := lw_g (lw_at lw_m1 176 rfl) rfl
theorem q194 : (Jvm.Cond.privateMethod ({ cls := "RollbackGameModel", name := "play", desc := "(I)V" } : Jvm.MethodName)) ∈ lw_tbl := lw_at lw_m1 177 rfl
theorem q195 : (Jvm.Cond.instanceMethod ({ cls := "RollbackGameModel", name := "play", desc := "(I)V" } : Jvm.MethodName)) ∈ lw_all := lw_g (lw_at lw_m1 178 rfl) rfl
theorem q196 : (Jvm.Cond.code ({ cls := "RollbackGameModel", name := "play", desc := "(I)V" } : Jvm.MethodName) prog_3_method_8_code (3 : Nat) (Option.none : Option Jvm.ClassFile.FieldType)) ∈ lw_all := lw_g (lw_at lw_m1 179 rfl) rfl
theorem q197 : (Jvm.Cond.methodLink "RollbackGameModel" (33 : Nat) ({ cls := "RollbackGameModel", name := "over", desc := "()Z" } : Jvm.MethodName)) ∈ lw_all := lw_g (lw_at lw_m1 180 rfl) rfl
theorem q198 : (Jvm.Cond.privateMethod ({ cls := "RollbackGameModel", name := "over", desc := "()Z" } : Jvm.MethodName)) ∈ lw_tbl := lw_at lw_m1 181 rfl
theorem q199 : (Jvm.Cond.instanceMethod ({ cls := "RollbackGameModel", name := "over", desc := "()Z" } : Jvm.MethodName)) ∈ lw_all := lw_g (lw_at lw_m1 182 rfl) rfl
theorem q200 : (Jvm.Cond.code ({ cls := "RollbackGameModel", name := "over", desc := "()Z" } : Jvm.MethodName) prog_3_method_5_code (1 : Nat) (Option.some Jvm.ClassFile.FieldType.boolean)) ∈ lw_all := lw_g (lw_at lw_m1 183 rfl) rfl
theorem q201 : (Jvm.Cond.methodLink "RollbackGameModel" (37 : Nat) ({ cls := "RollbackGameModel", name := "step", desc := "(I)V" } : Jvm.MethodName)) ∈ lw_all := lw_g (lw_at lw_m1 184 rfl) rfl
theorem q202 : (Jvm.Cond.privateMethod ({ cls := "RollbackGameModel", name := "step", desc := "(I)V" } : Jvm.MethodName)) ∈ lw_tbl := lw_at lw_m1 185 rfl
theorem q203 : (Jvm.Cond.instanceMethod ({ cls := "RollbackGameModel", name := "step", desc := "(I)V" } : Jvm.MethodName)) ∈ lw_all := lw_g (lw_at lw_m1 186 rfl) rfl
theorem q204 : (Jvm.Cond.code ({ cls := "RollbackGameModel", name := "step", desc := "(I)V" } : Jvm.MethodName) prog_3_method_7_code (8 : Nat) (Option.none : Option Jvm.ClassFile.FieldType)) ∈ lw_all := lw_g (lw_at lw_m1 187 rfl) rfl
theorem q205 : (Jvm.Cond.methodLink "RollbackGameModel" (25 : Nat) ({ cls := "RollbackGameModel", name := "used", desc := "(II)I" } : Jvm.MethodName)) ∈ lw_all := lw_g (lw_at lw_m1 188 rfl) rfl
theorem q206 : (Jvm.Cond.privateMethod ({ cls := "RollbackGameModel", name := "used", desc := "(II)I" } : Jvm.MethodName)) ∈ lw_tbl := lw_at lw_m1 189 rfl
theorem q207 : (Jvm.Cond.instanceMethod ({ cls := "RollbackGameModel", name := "used", desc := "(II)I" } : Jvm.MethodName)) ∈ lw_all := lw_g (lw_at lw_m1 190 rfl) rfl
theorem q208 : (Jvm.Cond.code ({ cls := "RollbackGameModel", name := "used", desc := "(II)I" } : Jvm.MethodName) prog_3_method_4_code (5 : Nat) (Option.some Jvm.ClassFile.FieldType.int)) ∈ lw_all := lw_g (lw_at lw_m1 191 rfl) rfl
theorem q209 : (Jvm.Cond.methodLink "RollbackGameModel" (29 : Nat) ({ cls := "RollbackGameModel", name := "walk", desc := "(II)V" } : Jvm.MethodName)) ∈ lw_all := lw_g (lw_at lw_m1 192 rfl) rfl
theorem q210 : (Jvm.Cond.privateMethod ({ cls := "RollbackGameModel", name := "walk", desc := "(II)V" } : Jvm.MethodName)) ∈ lw_tbl := lw_at lw_m1 193 rfl
theorem q211 : (Jvm.Cond.instanceMethod ({ cls := "RollbackGameModel", name := "walk", desc := "(II)V" } : Jvm.MethodName)) ∈ lw_all := lw_g (lw_at lw_m1 194 rfl) rfl
theorem q212 : (Jvm.Cond.code ({ cls := "RollbackGameModel", name := "walk", desc := "(II)V" } : Jvm.MethodName) prog_3_method_6_code (4 : Nat) (Option.none : Option Jvm.ClassFile.FieldType)) ∈ lw_all := lw_g (lw_at lw_m1 195 rfl) rfl
theorem q213 : (Jvm.Cond.constant "RollbackGameModel" (44 : Nat) (100000 : Int32)) ∈ lw_all := lw_g (lw_at lw_m1 196 rfl) rfl
theorem q215 : (Jvm.Cond.instanceMethod ({ cls := "RollbackGameModel", name := "tick", desc := "()I" } : Jvm.MethodName)) ∈ lw_all := lw_g (lw_at lw_m1 198 rfl) rfl
theorem q216 : (Jvm.Cond.selects "RollbackGameModel" ({ cls := "RollbackGameModel", name := "tick", desc := "()I" } : Jvm.MethodName) ({ cls := "RollbackGameModel", name := "tick", desc := "()I" } : Jvm.MethodName)) ∈ lw_all := lw_g (lw_at lw_m1 199 rfl) rfl
theorem q217 : (Jvm.Cond.code ({ cls := "RollbackGameModel", name := "tick", desc := "()I" } : Jvm.MethodName) prog_3_method_11_code (1 : Nat) (Option.some Jvm.ClassFile.FieldType.int)) ∈ lw_all := lw_g (lw_at lw_m1 200 rfl) rfl
theorem q219 : (Jvm.Cond.instanceMethod ({ cls := "RollbackGameModel", name := "played", desc := "()I" } : Jvm.MethodName)) ∈ lw_all := lw_g (lw_at lw_m1 202 rfl) rfl
theorem q220 : (Jvm.Cond.selects "RollbackGameModel" ({ cls := "RollbackGameModel", name := "played", desc := "()I" } : Jvm.MethodName) ({ cls := "RollbackGameModel", name := "played", desc := "()I" } : Jvm.MethodName)) ∈ lw_all := lw_g (lw_at lw_m1 203 rfl) rfl
theorem q221 : (Jvm.Cond.code ({ cls := "RollbackGameModel", name := "played", desc := "()I" } : Jvm.MethodName) prog_3_method_12_code (1 : Nat) (Option.some Jvm.ClassFile.FieldType.int)) ∈ lw_all := lw_g (lw_at lw_m1 204 rfl) rfl
theorem q223 : (Jvm.Cond.instanceMethod ({ cls := "RollbackGameModel", name := "sure", desc := "()I" } : Jvm.MethodName)) ∈ lw_all := lw_g (lw_at lw_m1 206 rfl) rfl
theorem q224 : (Jvm.Cond.selects "RollbackGameModel" ({ cls := "RollbackGameModel", name := "sure", desc := "()I" } : Jvm.MethodName) ({ cls := "RollbackGameModel", name := "sure", desc := "()I" } : Jvm.MethodName)) ∈ lw_all := lw_g (lw_at lw_m1 207 rfl) rfl
theorem q225 : (Jvm.Cond.code ({ cls := "RollbackGameModel", name := "sure", desc := "()I" } : Jvm.MethodName) prog_3_method_13_code (2 : Nat) (Option.some Jvm.ClassFile.FieldType.int)) ∈ lw_all := lw_g (lw_at lw_m1 208 rfl) rfl
theorem q227 : (Jvm.Cond.instanceMethod ({ cls := "RollbackGameModel", name := "position", desc := "(I)I" } : Jvm.MethodName)) ∈ lw_all := lw_g (lw_at lw_m1 210 rfl) rfl
theorem q228 : (Jvm.Cond.selects "RollbackGameModel" ({ cls := "RollbackGameModel", name := "position", desc := "(I)I" } : Jvm.MethodName) ({ cls := "RollbackGameModel", name := "position", desc := "(I)I" } : Jvm.MethodName)) ∈ lw_all := lw_g (lw_at lw_m1 211 rfl) rfl
theorem q229 : (Jvm.Cond.code ({ cls := "RollbackGameModel", name := "position", desc := "(I)I" } : Jvm.MethodName) prog_3_method_14_code (2 : Nat) (Option.some Jvm.ClassFile.FieldType.int)) ∈ lw_all := lw_g (lw_at lw_m1 212 rfl) rfl
theorem q231 : (Jvm.Cond.instanceMethod ({ cls := "RollbackGameModel", name := "strength", desc := "(I)I" } : Jvm.MethodName)) ∈ lw_all := lw_g (lw_at lw_m1 214 rfl) rfl
theorem q232 : (Jvm.Cond.selects "RollbackGameModel" ({ cls := "RollbackGameModel", name := "strength", desc := "(I)I" } : Jvm.MethodName) ({ cls := "RollbackGameModel", name := "strength", desc := "(I)I" } : Jvm.MethodName)) ∈ lw_all := lw_g (lw_at lw_m1 215 rfl) rfl
theorem q233 : (Jvm.Cond.code ({ cls := "RollbackGameModel", name := "strength", desc := "(I)I" } : Jvm.MethodName) prog_3_method_15_code (2 : Nat) (Option.some Jvm.ClassFile.FieldType.int)) ∈ lw_all := lw_g (lw_at lw_m1 216 rfl) rfl
theorem q235 : (Jvm.Cond.instanceMethod ({ cls := "RollbackGameModel", name := "pause", desc := "(I)I" } : Jvm.MethodName)) ∈ lw_all := lw_g (lw_at lw_m1 218 rfl) rfl
theorem q236 : (Jvm.Cond.selects "RollbackGameModel" ({ cls := "RollbackGameModel", name := "pause", desc := "(I)I" } : Jvm.MethodName) ({ cls := "RollbackGameModel", name := "pause", desc := "(I)I" } : Jvm.MethodName)) ∈ lw_all := lw_g (lw_at lw_m1 219 rfl) rfl
theorem q237 : (Jvm.Cond.code ({ cls := "RollbackGameModel", name := "pause", desc := "(I)I" } : Jvm.MethodName) prog_3_method_16_code (2 : Nat) (Option.some Jvm.ClassFile.FieldType.int)) ∈ lw_all := lw_g (lw_at lw_m1 220 rfl) rfl
theorem q239 : (Jvm.Cond.instanceMethod ({ cls := "RollbackGameModel", name := "shown", desc := "(I)I" } : Jvm.MethodName)) ∈ lw_all := lw_g (lw_at lw_m1 222 rfl) rfl
theorem q240 : (Jvm.Cond.selects "RollbackGameModel" ({ cls := "RollbackGameModel", name := "shown", desc := "(I)I" } : Jvm.MethodName) ({ cls := "RollbackGameModel", name := "shown", desc := "(I)I" } : Jvm.MethodName)) ∈ lw_all := lw_g (lw_at lw_m1 223 rfl) rfl
theorem q241 : (Jvm.Cond.code ({ cls := "RollbackGameModel", name := "shown", desc := "(I)I" } : Jvm.MethodName) prog_3_method_17_code (2 : Nat) (Option.some Jvm.ClassFile.FieldType.int)) ∈ lw_all := lw_g (lw_at lw_m1 224 rfl) rfl
theorem q243 : (Jvm.Cond.instanceMethod ({ cls := "RollbackGameModel", name := "move", desc := "(II)I" } : Jvm.MethodName)) ∈ lw_all := lw_g (lw_at lw_m1 226 rfl) rfl
theorem q244 : (Jvm.Cond.selects "RollbackGameModel" ({ cls := "RollbackGameModel", name := "move", desc := "(II)I" } : Jvm.MethodName) ({ cls := "RollbackGameModel", name := "move", desc := "(II)I" } : Jvm.MethodName)) ∈ lw_all := lw_g (lw_at lw_m1 227 rfl) rfl
theorem q245 : (Jvm.Cond.code ({ cls := "RollbackGameModel", name := "move", desc := "(II)I" } : Jvm.MethodName) prog_3_method_18_code (3 : Nat) (Option.some Jvm.ClassFile.FieldType.int)) ∈ lw_all := lw_g (lw_at lw_m1 228 rfl) rfl
theorem q247 : (Jvm.Cond.instanceMethod ({ cls := "RollbackGameModel", name := "missing", desc := "(I)I" } : Jvm.MethodName)) ∈ lw_all := lw_g (lw_at lw_m1 230 rfl) rfl
theorem q248 : (Jvm.Cond.selects "RollbackGameModel" ({ cls := "RollbackGameModel", name := "missing", desc := "(I)I" } : Jvm.MethodName) ({ cls := "RollbackGameModel", name := "missing", desc := "(I)I" } : Jvm.MethodName)) ∈ lw_all := lw_g (lw_at lw_m1 231 rfl) rfl
theorem q249 : (Jvm.Cond.code ({ cls := "RollbackGameModel", name := "missing", desc := "(I)I" } : Jvm.MethodName) prog_3_method_19_code (3 : Nat) (Option.some Jvm.ClassFile.FieldType.int)) ∈ lw_all := lw_g (lw_at lw_m1 232 rfl) rfl
theorem q251 : (Jvm.Cond.instanceMethod ({ cls := "RollbackGameModel", name := "winner", desc := "(I)I" } : Jvm.MethodName)) ∈ lw_all := lw_g (lw_at lw_m1 234 rfl) rfl
theorem q252 : (Jvm.Cond.selects "RollbackGameModel" ({ cls := "RollbackGameModel", name := "winner", desc := "(I)I" } : Jvm.MethodName) ({ cls := "RollbackGameModel", name := "winner", desc := "(I)I" } : Jvm.MethodName)) ∈ lw_all := lw_g (lw_at lw_m1 235 rfl) rfl
theorem q253 : (Jvm.Cond.code ({ cls := "RollbackGameModel", name := "winner", desc := "(I)I" } : Jvm.MethodName) prog_3_method_20_code (2 : Nat) (Option.some Jvm.ClassFile.FieldType.int)) ∈ lw_all := lw_g (lw_at lw_m1 236 rfl) rfl
theorem q255 : (Jvm.Cond.instanceMethod ({ cls := "RollbackGameModel", name := "overAfter", desc := "()I" } : Jvm.MethodName)) ∈ lw_all := lw_g (lw_at lw_m1 238 rfl) rfl
theorem q256 : (Jvm.Cond.selects "RollbackGameModel" ({ cls := "RollbackGameModel", name := "overAfter", desc := "()I" } : Jvm.MethodName) ({ cls := "RollbackGameModel", name := "overAfter", desc := "()I" } : Jvm.MethodName)) ∈ lw_all := lw_g (lw_at lw_m1 239 rfl) rfl
theorem q257 : (Jvm.Cond.code ({ cls := "RollbackGameModel", name := "overAfter", desc := "()I" } : Jvm.MethodName) prog_3_method_21_code (2 : Nat) (Option.some Jvm.ClassFile.FieldType.int)) ∈ lw_all := lw_g (lw_at lw_m2 0 rfl) rfl
theorem q259 : (Jvm.Cond.instanceMethod ({ cls := "RollbackGameModel", name := "settled", desc := "()Z" } : Jvm.MethodName)) ∈ lw_all := lw_g (lw_at lw_m2 2 rfl) rfl
theorem q260 : (Jvm.Cond.selects "RollbackGameModel" ({ cls := "RollbackGameModel", name := "settled", desc := "()Z" } : Jvm.MethodName) ({ cls := "RollbackGameModel", name := "settled", desc := "()Z" } : Jvm.MethodName)) ∈ lw_all := lw_g (lw_at lw_m2 3 rfl) rfl
theorem q261 : (Jvm.Cond.code ({ cls := "RollbackGameModel", name := "settled", desc := "()Z" } : Jvm.MethodName) prog_3_method_22_code (2 : Nat) (Option.some Jvm.ClassFile.FieldType.boolean)) ∈ lw_all := lw_g (lw_at lw_m2 4 rfl) rfl
theorem q262 : (Jvm.Cond.methodLink "RollbackGameModel" (60 : Nat) ({ cls := "RollbackGameModel", name := "sure", desc := "()I" } : Jvm.MethodName)) ∈ lw_all := lw_g (lw_at lw_m2 5 rfl) rfl
theorem in_X1 : ∀ w ∈ wsX10, w ∈ lw_all := lw_in wsX10 [164, 166, 168, 170, 172, 174] (by decide +kernel) (by decide +kernel)
end
section
/-! the law's own entry -/
set_option maxRecDepth 100000
abbrev cL_law : ByteArray := code
theorem dL_law_0 : decode cL_law 0 = .ok (.new 7, 3) := by decide +kernel
theorem dL_law_3 : decode cL_law 3 = .ok (.dup, 1) := by decide +kernel
theorem dL_law_4 : decode cL_law 4 = .ok (.invokespecial 9, 3) := by decide +kernel
theorem dL_law_7 : decode cL_law 7 = .ok (.astore_n 1, 1) := by decide +kernel
theorem dL_law_8 : decode cL_law 8 = .ok (.new 10, 3) := by decide +kernel
theorem dL_law_11 : decode cL_law 11 = .ok (.dup, 1) := by decide +kernel
theorem dL_law_12 : decode cL_law 12 = .ok (.invokespecial 12, 3) := by decide +kernel
theorem dL_law_15 : decode cL_law 15 = .ok (.astore_n 2, 1) := by decide +kernel
theorem dL_law_16 : decode cL_law 16 = .ok (.iconst 0, 1) := by decide +kernel
theorem dL_law_17 : decode cL_law 17 = .ok (.istore_n 3, 1) := by decide +kernel
theorem dL_law_18 : decode cL_law 18 = .ok (.iload_n 3, 1) := by decide +kernel
theorem dL_law_19 : decode cL_law 19 = .ok (.aload_n 0, 1) := by decide +kernel
theorem dL_law_20 : decode cL_law 20 = .ok (.arraylength, 1) := by decide +kernel
theorem dL_law_21 : decode cL_law 21 = .ok (.iconst 4, 1) := by decide +kernel
theorem dL_law_22 : decode cL_law 22 = .ok (.isub, 1) := by decide +kernel
theorem dL_law_23 : decode cL_law 23 = .ok (.if_icmp .gt 362, 3) := by decide +kernel
theorem dL_law_26 : decode cL_law 26 = .ok (.aload_n 0, 1) := by decide +kernel
theorem dL_law_27 : decode cL_law 27 = .ok (.iload_n 3, 1) := by decide +kernel
theorem dL_law_28 : decode cL_law 28 = .ok (.iaload, 1) := by decide +kernel
theorem dL_law_29 : decode cL_law 29 = .ok (.bipush 15, 2) := by decide +kernel
theorem dL_law_31 : decode cL_law 31 = .ok (.iand, 1) := by decide +kernel
theorem dL_law_32 : decode cL_law 32 = .ok (.tableswitch 347 0 12 #[68, 111, 124, 137, 150, 173, 196, 219, 242, 275, 298, 321, 334], 68) := by decide +kernel
theorem dL_law_100 : decode cL_law 100 = .ok (.aload_n 1, 1) := by decide +kernel
theorem dL_law_101 : decode cL_law 101 = .ok (.aload_n 0, 1) := by decide +kernel
theorem dL_law_102 : decode cL_law 102 = .ok (.iload_n 3, 1) := by decide +kernel
theorem dL_law_103 : decode cL_law 103 = .ok (.iconst 1, 1) := by decide +kernel
theorem dL_law_104 : decode cL_law 104 = .ok (.iadd, 1) := by decide +kernel
theorem dL_law_105 : decode cL_law 105 = .ok (.iaload, 1) := by decide +kernel
theorem dL_law_106 : decode cL_law 106 = .ok (.aload_n 0, 1) := by decide +kernel
theorem dL_law_107 : decode cL_law 107 = .ok (.iload_n 3, 1) := by decide +kernel
theorem dL_law_108 : decode cL_law 108 = .ok (.iconst 2, 1) := by decide +kernel
theorem dL_law_109 : decode cL_law 109 = .ok (.iadd, 1) := by decide +kernel
theorem dL_law_110 : decode cL_law 110 = .ok (.iaload, 1) := by decide +kernel
theorem dL_law_111 : decode cL_law 111 = .ok (.aload_n 0, 1) := by decide +kernel
theorem dL_law_112 : decode cL_law 112 = .ok (.iload_n 3, 1) := by decide +kernel
theorem dL_law_113 : decode cL_law 113 = .ok (.iconst 3, 1) := by decide +kernel
theorem dL_law_114 : decode cL_law 114 = .ok (.iadd, 1) := by decide +kernel
theorem dL_law_115 : decode cL_law 115 = .ok (.iaload, 1) := by decide +kernel
theorem dL_law_116 : decode cL_law 116 = .ok (.invokevirtual 13, 3) := by decide +kernel
theorem dL_law_119 : decode cL_law 119 = .ok (.aload_n 2, 1) := by decide +kernel
theorem dL_law_120 : decode cL_law 120 = .ok (.aload_n 0, 1) := by decide +kernel
theorem dL_law_121 : decode cL_law 121 = .ok (.iload_n 3, 1) := by decide +kernel
theorem dL_law_122 : decode cL_law 122 = .ok (.iconst 1, 1) := by decide +kernel
theorem dL_law_123 : decode cL_law 123 = .ok (.iadd, 1) := by decide +kernel
theorem dL_law_124 : decode cL_law 124 = .ok (.iaload, 1) := by decide +kernel
theorem dL_law_125 : decode cL_law 125 = .ok (.aload_n 0, 1) := by decide +kernel
theorem dL_law_126 : decode cL_law 126 = .ok (.iload_n 3, 1) := by decide +kernel
theorem dL_law_127 : decode cL_law 127 = .ok (.iconst 2, 1) := by decide +kernel
theorem dL_law_128 : decode cL_law 128 = .ok (.iadd, 1) := by decide +kernel
theorem dL_law_129 : decode cL_law 129 = .ok (.iaload, 1) := by decide +kernel
theorem dL_law_130 : decode cL_law 130 = .ok (.aload_n 0, 1) := by decide +kernel
theorem dL_law_131 : decode cL_law 131 = .ok (.iload_n 3, 1) := by decide +kernel
theorem dL_law_132 : decode cL_law 132 = .ok (.iconst 3, 1) := by decide +kernel
theorem dL_law_133 : decode cL_law 133 = .ok (.iadd, 1) := by decide +kernel
theorem dL_law_134 : decode cL_law 134 = .ok (.iaload, 1) := by decide +kernel
theorem dL_law_135 : decode cL_law 135 = .ok (.invokevirtual 17, 3) := by decide +kernel
theorem dL_law_138 : decode cL_law 138 = .ok (.if_icmp .eq 241, 3) := by decide +kernel
theorem dL_law_141 : decode cL_law 141 = .ok (.iconst 0, 1) := by decide +kernel
theorem dL_law_142 : decode cL_law 142 = .ok (.ireturn, 1) := by decide +kernel
theorem dL_law_143 : decode cL_law 143 = .ok (.aload_n 1, 1) := by decide +kernel
theorem dL_law_144 : decode cL_law 144 = .ok (.invokevirtual 18, 3) := by decide +kernel
theorem dL_law_147 : decode cL_law 147 = .ok (.aload_n 2, 1) := by decide +kernel
theorem dL_law_148 : decode cL_law 148 = .ok (.invokevirtual 22, 3) := by decide +kernel
theorem dL_law_151 : decode cL_law 151 = .ok (.if_icmp .eq 228, 3) := by decide +kernel
theorem dL_law_154 : decode cL_law 154 = .ok (.iconst 0, 1) := by decide +kernel
theorem dL_law_155 : decode cL_law 155 = .ok (.ireturn, 1) := by decide +kernel
theorem dL_law_156 : decode cL_law 156 = .ok (.aload_n 1, 1) := by decide +kernel
theorem dL_law_157 : decode cL_law 157 = .ok (.invokevirtual 23, 3) := by decide +kernel
theorem dL_law_160 : decode cL_law 160 = .ok (.aload_n 2, 1) := by decide +kernel
theorem dL_law_161 : decode cL_law 161 = .ok (.invokevirtual 26, 3) := by decide +kernel
theorem dL_law_164 : decode cL_law 164 = .ok (.if_icmp .eq 215, 3) := by decide +kernel
theorem dL_law_167 : decode cL_law 167 = .ok (.iconst 0, 1) := by decide +kernel
theorem dL_law_168 : decode cL_law 168 = .ok (.ireturn, 1) := by decide +kernel
theorem dL_law_169 : decode cL_law 169 = .ok (.aload_n 1, 1) := by decide +kernel
theorem dL_law_170 : decode cL_law 170 = .ok (.invokevirtual 27, 3) := by decide +kernel
theorem dL_law_173 : decode cL_law 173 = .ok (.aload_n 2, 1) := by decide +kernel
theorem dL_law_174 : decode cL_law 174 = .ok (.invokevirtual 30, 3) := by decide +kernel
theorem dL_law_177 : decode cL_law 177 = .ok (.if_icmp .eq 202, 3) := by decide +kernel
theorem dL_law_180 : decode cL_law 180 = .ok (.iconst 0, 1) := by decide +kernel
theorem dL_law_181 : decode cL_law 181 = .ok (.ireturn, 1) := by decide +kernel
theorem dL_law_182 : decode cL_law 182 = .ok (.aload_n 1, 1) := by decide +kernel
theorem dL_law_183 : decode cL_law 183 = .ok (.aload_n 0, 1) := by decide +kernel
theorem dL_law_184 : decode cL_law 184 = .ok (.iload_n 3, 1) := by decide +kernel
theorem dL_law_185 : decode cL_law 185 = .ok (.iconst 1, 1) := by decide +kernel
theorem dL_law_186 : decode cL_law 186 = .ok (.iadd, 1) := by decide +kernel
theorem dL_law_187 : decode cL_law 187 = .ok (.iaload, 1) := by decide +kernel
theorem dL_law_188 : decode cL_law 188 = .ok (.invokevirtual 31, 3) := by decide +kernel
theorem dL_law_191 : decode cL_law 191 = .ok (.aload_n 2, 1) := by decide +kernel
theorem dL_law_192 : decode cL_law 192 = .ok (.aload_n 0, 1) := by decide +kernel
theorem dL_law_193 : decode cL_law 193 = .ok (.iload_n 3, 1) := by decide +kernel
theorem dL_law_194 : decode cL_law 194 = .ok (.iconst 1, 1) := by decide +kernel
theorem dL_law_195 : decode cL_law 195 = .ok (.iadd, 1) := by decide +kernel
theorem dL_law_196 : decode cL_law 196 = .ok (.iaload, 1) := by decide +kernel
theorem dL_law_197 : decode cL_law 197 = .ok (.invokevirtual 35, 3) := by decide +kernel
theorem dL_law_200 : decode cL_law 200 = .ok (.if_icmp .eq 179, 3) := by decide +kernel
theorem dL_law_203 : decode cL_law 203 = .ok (.iconst 0, 1) := by decide +kernel
theorem dL_law_204 : decode cL_law 204 = .ok (.ireturn, 1) := by decide +kernel
theorem dL_law_205 : decode cL_law 205 = .ok (.aload_n 1, 1) := by decide +kernel
theorem dL_law_206 : decode cL_law 206 = .ok (.aload_n 0, 1) := by decide +kernel
theorem dL_law_207 : decode cL_law 207 = .ok (.iload_n 3, 1) := by decide +kernel
theorem dL_law_208 : decode cL_law 208 = .ok (.iconst 1, 1) := by decide +kernel
theorem dL_law_209 : decode cL_law 209 = .ok (.iadd, 1) := by decide +kernel
theorem dL_law_210 : decode cL_law 210 = .ok (.iaload, 1) := by decide +kernel
theorem dL_law_211 : decode cL_law 211 = .ok (.invokevirtual 36, 3) := by decide +kernel
theorem dL_law_214 : decode cL_law 214 = .ok (.aload_n 2, 1) := by decide +kernel
theorem dL_law_215 : decode cL_law 215 = .ok (.aload_n 0, 1) := by decide +kernel
theorem dL_law_216 : decode cL_law 216 = .ok (.iload_n 3, 1) := by decide +kernel
theorem dL_law_217 : decode cL_law 217 = .ok (.iconst 1, 1) := by decide +kernel
theorem dL_law_218 : decode cL_law 218 = .ok (.iadd, 1) := by decide +kernel
theorem dL_law_219 : decode cL_law 219 = .ok (.iaload, 1) := by decide +kernel
theorem dL_law_220 : decode cL_law 220 = .ok (.invokevirtual 39, 3) := by decide +kernel
theorem dL_law_223 : decode cL_law 223 = .ok (.if_icmp .eq 156, 3) := by decide +kernel
theorem dL_law_226 : decode cL_law 226 = .ok (.iconst 0, 1) := by decide +kernel
theorem dL_law_227 : decode cL_law 227 = .ok (.ireturn, 1) := by decide +kernel
theorem dL_law_228 : decode cL_law 228 = .ok (.aload_n 1, 1) := by decide +kernel
theorem dL_law_229 : decode cL_law 229 = .ok (.aload_n 0, 1) := by decide +kernel
theorem dL_law_230 : decode cL_law 230 = .ok (.iload_n 3, 1) := by decide +kernel
theorem dL_law_231 : decode cL_law 231 = .ok (.iconst 1, 1) := by decide +kernel
theorem dL_law_232 : decode cL_law 232 = .ok (.iadd, 1) := by decide +kernel
theorem dL_law_233 : decode cL_law 233 = .ok (.iaload, 1) := by decide +kernel
theorem dL_law_234 : decode cL_law 234 = .ok (.invokevirtual 40, 3) := by decide +kernel
theorem dL_law_237 : decode cL_law 237 = .ok (.aload_n 2, 1) := by decide +kernel
theorem dL_law_238 : decode cL_law 238 = .ok (.aload_n 0, 1) := by decide +kernel
theorem dL_law_239 : decode cL_law 239 = .ok (.iload_n 3, 1) := by decide +kernel
theorem dL_law_240 : decode cL_law 240 = .ok (.iconst 1, 1) := by decide +kernel
theorem dL_law_241 : decode cL_law 241 = .ok (.iadd, 1) := by decide +kernel
theorem dL_law_242 : decode cL_law 242 = .ok (.iaload, 1) := by decide +kernel
theorem dL_law_243 : decode cL_law 243 = .ok (.invokevirtual 43, 3) := by decide +kernel
theorem dL_law_246 : decode cL_law 246 = .ok (.if_icmp .eq 133, 3) := by decide +kernel
theorem dL_law_249 : decode cL_law 249 = .ok (.iconst 0, 1) := by decide +kernel
theorem dL_law_250 : decode cL_law 250 = .ok (.ireturn, 1) := by decide +kernel
theorem dL_law_251 : decode cL_law 251 = .ok (.aload_n 1, 1) := by decide +kernel
theorem dL_law_252 : decode cL_law 252 = .ok (.aload_n 0, 1) := by decide +kernel
theorem dL_law_253 : decode cL_law 253 = .ok (.iload_n 3, 1) := by decide +kernel
theorem dL_law_254 : decode cL_law 254 = .ok (.iconst 1, 1) := by decide +kernel
theorem dL_law_255 : decode cL_law 255 = .ok (.iadd, 1) := by decide +kernel
theorem dL_law_256 : decode cL_law 256 = .ok (.iaload, 1) := by decide +kernel
theorem dL_law_257 : decode cL_law 257 = .ok (.invokevirtual 44, 3) := by decide +kernel
theorem dL_law_260 : decode cL_law 260 = .ok (.aload_n 2, 1) := by decide +kernel
theorem dL_law_261 : decode cL_law 261 = .ok (.aload_n 0, 1) := by decide +kernel
theorem dL_law_262 : decode cL_law 262 = .ok (.iload_n 3, 1) := by decide +kernel
theorem dL_law_263 : decode cL_law 263 = .ok (.iconst 1, 1) := by decide +kernel
theorem dL_law_264 : decode cL_law 264 = .ok (.iadd, 1) := by decide +kernel
theorem dL_law_265 : decode cL_law 265 = .ok (.iaload, 1) := by decide +kernel
theorem dL_law_266 : decode cL_law 266 = .ok (.invokevirtual 47, 3) := by decide +kernel
theorem dL_law_269 : decode cL_law 269 = .ok (.if_icmp .eq 110, 3) := by decide +kernel
theorem dL_law_272 : decode cL_law 272 = .ok (.iconst 0, 1) := by decide +kernel
theorem dL_law_273 : decode cL_law 273 = .ok (.ireturn, 1) := by decide +kernel
theorem dL_law_274 : decode cL_law 274 = .ok (.aload_n 1, 1) := by decide +kernel
theorem dL_law_275 : decode cL_law 275 = .ok (.aload_n 0, 1) := by decide +kernel
theorem dL_law_276 : decode cL_law 276 = .ok (.iload_n 3, 1) := by decide +kernel
theorem dL_law_277 : decode cL_law 277 = .ok (.iconst 1, 1) := by decide +kernel
theorem dL_law_278 : decode cL_law 278 = .ok (.iadd, 1) := by decide +kernel
theorem dL_law_279 : decode cL_law 279 = .ok (.iaload, 1) := by decide +kernel
theorem dL_law_280 : decode cL_law 280 = .ok (.aload_n 0, 1) := by decide +kernel
theorem dL_law_281 : decode cL_law 281 = .ok (.iload_n 3, 1) := by decide +kernel
theorem dL_law_282 : decode cL_law 282 = .ok (.iconst 2, 1) := by decide +kernel
theorem dL_law_283 : decode cL_law 283 = .ok (.iadd, 1) := by decide +kernel
theorem dL_law_284 : decode cL_law 284 = .ok (.iaload, 1) := by decide +kernel
theorem dL_law_285 : decode cL_law 285 = .ok (.invokevirtual 48, 3) := by decide +kernel
theorem dL_law_288 : decode cL_law 288 = .ok (.aload_n 2, 1) := by decide +kernel
theorem dL_law_289 : decode cL_law 289 = .ok (.aload_n 0, 1) := by decide +kernel
theorem dL_law_290 : decode cL_law 290 = .ok (.iload_n 3, 1) := by decide +kernel
theorem dL_law_291 : decode cL_law 291 = .ok (.iconst 1, 1) := by decide +kernel
theorem dL_law_292 : decode cL_law 292 = .ok (.iadd, 1) := by decide +kernel
theorem dL_law_293 : decode cL_law 293 = .ok (.iaload, 1) := by decide +kernel
theorem dL_law_294 : decode cL_law 294 = .ok (.aload_n 0, 1) := by decide +kernel
theorem dL_law_295 : decode cL_law 295 = .ok (.iload_n 3, 1) := by decide +kernel
theorem dL_law_296 : decode cL_law 296 = .ok (.iconst 2, 1) := by decide +kernel
theorem dL_law_297 : decode cL_law 297 = .ok (.iadd, 1) := by decide +kernel
theorem dL_law_298 : decode cL_law 298 = .ok (.iaload, 1) := by decide +kernel
theorem dL_law_299 : decode cL_law 299 = .ok (.invokevirtual 52, 3) := by decide +kernel
theorem dL_law_302 : decode cL_law 302 = .ok (.if_icmp .eq 77, 3) := by decide +kernel
theorem dL_law_305 : decode cL_law 305 = .ok (.iconst 0, 1) := by decide +kernel
theorem dL_law_306 : decode cL_law 306 = .ok (.ireturn, 1) := by decide +kernel
theorem dL_law_307 : decode cL_law 307 = .ok (.aload_n 1, 1) := by decide +kernel
theorem dL_law_308 : decode cL_law 308 = .ok (.aload_n 0, 1) := by decide +kernel
theorem dL_law_309 : decode cL_law 309 = .ok (.iload_n 3, 1) := by decide +kernel
theorem dL_law_310 : decode cL_law 310 = .ok (.iconst 1, 1) := by decide +kernel
theorem dL_law_311 : decode cL_law 311 = .ok (.iadd, 1) := by decide +kernel
theorem dL_law_312 : decode cL_law 312 = .ok (.iaload, 1) := by decide +kernel
theorem dL_law_313 : decode cL_law 313 = .ok (.invokevirtual 53, 3) := by decide +kernel
theorem dL_law_316 : decode cL_law 316 = .ok (.aload_n 2, 1) := by decide +kernel
theorem dL_law_317 : decode cL_law 317 = .ok (.aload_n 0, 1) := by decide +kernel
theorem dL_law_318 : decode cL_law 318 = .ok (.iload_n 3, 1) := by decide +kernel
theorem dL_law_319 : decode cL_law 319 = .ok (.iconst 1, 1) := by decide +kernel
theorem dL_law_320 : decode cL_law 320 = .ok (.iadd, 1) := by decide +kernel
theorem dL_law_321 : decode cL_law 321 = .ok (.iaload, 1) := by decide +kernel
theorem dL_law_322 : decode cL_law 322 = .ok (.invokevirtual 56, 3) := by decide +kernel
theorem dL_law_325 : decode cL_law 325 = .ok (.if_icmp .eq 54, 3) := by decide +kernel
theorem dL_law_328 : decode cL_law 328 = .ok (.iconst 0, 1) := by decide +kernel
theorem dL_law_329 : decode cL_law 329 = .ok (.ireturn, 1) := by decide +kernel
theorem dL_law_330 : decode cL_law 330 = .ok (.aload_n 1, 1) := by decide +kernel
theorem dL_law_331 : decode cL_law 331 = .ok (.aload_n 0, 1) := by decide +kernel
theorem dL_law_332 : decode cL_law 332 = .ok (.iload_n 3, 1) := by decide +kernel
theorem dL_law_333 : decode cL_law 333 = .ok (.iconst 1, 1) := by decide +kernel
theorem dL_law_334 : decode cL_law 334 = .ok (.iadd, 1) := by decide +kernel
theorem dL_law_335 : decode cL_law 335 = .ok (.iaload, 1) := by decide +kernel
theorem dL_law_336 : decode cL_law 336 = .ok (.invokevirtual 57, 3) := by decide +kernel
theorem dL_law_339 : decode cL_law 339 = .ok (.aload_n 2, 1) := by decide +kernel
theorem dL_law_340 : decode cL_law 340 = .ok (.aload_n 0, 1) := by decide +kernel
theorem dL_law_341 : decode cL_law 341 = .ok (.iload_n 3, 1) := by decide +kernel
theorem dL_law_342 : decode cL_law 342 = .ok (.iconst 1, 1) := by decide +kernel
theorem dL_law_343 : decode cL_law 343 = .ok (.iadd, 1) := by decide +kernel
theorem dL_law_344 : decode cL_law 344 = .ok (.iaload, 1) := by decide +kernel
theorem dL_law_345 : decode cL_law 345 = .ok (.invokevirtual 60, 3) := by decide +kernel
theorem dL_law_348 : decode cL_law 348 = .ok (.if_icmp .eq 31, 3) := by decide +kernel
theorem dL_law_351 : decode cL_law 351 = .ok (.iconst 0, 1) := by decide +kernel
theorem dL_law_352 : decode cL_law 352 = .ok (.ireturn, 1) := by decide +kernel
theorem dL_law_353 : decode cL_law 353 = .ok (.aload_n 1, 1) := by decide +kernel
theorem dL_law_354 : decode cL_law 354 = .ok (.invokevirtual 61, 3) := by decide +kernel
theorem dL_law_357 : decode cL_law 357 = .ok (.aload_n 2, 1) := by decide +kernel
theorem dL_law_358 : decode cL_law 358 = .ok (.invokevirtual 64, 3) := by decide +kernel
theorem dL_law_361 : decode cL_law 361 = .ok (.if_icmp .eq 18, 3) := by decide +kernel
theorem dL_law_364 : decode cL_law 364 = .ok (.iconst 0, 1) := by decide +kernel
theorem dL_law_365 : decode cL_law 365 = .ok (.ireturn, 1) := by decide +kernel
theorem dL_law_366 : decode cL_law 366 = .ok (.aload_n 1, 1) := by decide +kernel
theorem dL_law_367 : decode cL_law 367 = .ok (.invokevirtual 65, 3) := by decide +kernel
theorem dL_law_370 : decode cL_law 370 = .ok (.aload_n 2, 1) := by decide +kernel
theorem dL_law_371 : decode cL_law 371 = .ok (.invokevirtual 69, 3) := by decide +kernel
theorem dL_law_374 : decode cL_law 374 = .ok (.if_icmp .eq 5, 3) := by decide +kernel
theorem dL_law_377 : decode cL_law 377 = .ok (.iconst 0, 1) := by decide +kernel
theorem dL_law_378 : decode cL_law 378 = .ok (.ireturn, 1) := by decide +kernel
theorem dL_law_379 : decode cL_law 379 = .ok (.iinc 3 4, 3) := by decide +kernel
theorem dL_law_382 : decode cL_law 382 = .ok (.goto (-364), 3) := by decide +kernel
theorem dL_law_385 : decode cL_law 385 = .ok (.iconst 1, 1) := by decide +kernel
theorem dL_law_386 : decode cL_law 386 = .ok (.ireturn, 1) := by decide +kernel
theorem q17 : (Jvm.Cond.initialized "RollbackGameLaw") ∈ lw_all := lw_g (lw_at lw_m1 0 rfl) rfl
set_option maxRecDepth 100000
theorem q20 : (Jvm.Cond.classLink "RollbackGameLaw" (7 : Nat) "RollbackGame") ∈ lw_all := lw_g (lw_at lw_m1 3 rfl) rfl
theorem q22 : (Jvm.Cond.methodLink "RollbackGameLaw" (9 : Nat) ({ cls := "RollbackGame", name := "<init>", desc := "()V" } : Jvm.MethodName)) ∈ lw_all := lw_g (lw_at lw_m1 5 rfl) rfl
theorem q81 : (Jvm.Cond.methodLink "RollbackGameLaw" (13 : Nat) ({ cls := "RollbackGame", name := "arrive", desc := "(III)I" } : Jvm.MethodName)) ∈ lw_all := lw_g (lw_at lw_m1 64 rfl) rfl
theorem q99 : (Jvm.Cond.methodLink "RollbackGameLaw" (18 : Nat) ({ cls := "RollbackGame", name := "tick", desc := "()I" } : Jvm.MethodName)) ∈ lw_all := lw_g (lw_at lw_m1 82 rfl) rfl
theorem q103 : (Jvm.Cond.methodLink "RollbackGameLaw" (23 : Nat) ({ cls := "RollbackGame", name := "played", desc := "()I" } : Jvm.MethodName)) ∈ lw_all := lw_g (lw_at lw_m1 86 rfl) rfl
theorem q107 : (Jvm.Cond.methodLink "RollbackGameLaw" (27 : Nat) ({ cls := "RollbackGame", name := "sure", desc := "()I" } : Jvm.MethodName)) ∈ lw_all := lw_g (lw_at lw_m1 90 rfl) rfl
theorem q115 : (Jvm.Cond.methodLink "RollbackGameLaw" (31 : Nat) ({ cls := "RollbackGame", name := "position", desc := "(I)I" } : Jvm.MethodName)) ∈ lw_all := lw_g (lw_at lw_m1 98 rfl) rfl
theorem q119 : (Jvm.Cond.methodLink "RollbackGameLaw" (36 : Nat) ({ cls := "RollbackGame", name := "strength", desc := "(I)I" } : Jvm.MethodName)) ∈ lw_all := lw_g (lw_at lw_m1 102 rfl) rfl
theorem q123 : (Jvm.Cond.methodLink "RollbackGameLaw" (40 : Nat) ({ cls := "RollbackGame", name := "pause", desc := "(I)I" } : Jvm.MethodName)) ∈ lw_all := lw_g (lw_at lw_m1 106 rfl) rfl
theorem q127 : (Jvm.Cond.methodLink "RollbackGameLaw" (44 : Nat) ({ cls := "RollbackGame", name := "shown", desc := "(I)I" } : Jvm.MethodName)) ∈ lw_all := lw_g (lw_at lw_m1 110 rfl) rfl
theorem q131 : (Jvm.Cond.methodLink "RollbackGameLaw" (48 : Nat) ({ cls := "RollbackGame", name := "move", desc := "(II)I" } : Jvm.MethodName)) ∈ lw_all := lw_g (lw_at lw_m1 114 rfl) rfl
theorem q135 : (Jvm.Cond.methodLink "RollbackGameLaw" (53 : Nat) ({ cls := "RollbackGame", name := "missing", desc := "(I)I" } : Jvm.MethodName)) ∈ lw_all := lw_g (lw_at lw_m1 118 rfl) rfl
theorem q139 : (Jvm.Cond.methodLink "RollbackGameLaw" (57 : Nat) ({ cls := "RollbackGame", name := "winner", desc := "(I)I" } : Jvm.MethodName)) ∈ lw_all := lw_g (lw_at lw_m1 122 rfl) rfl
theorem q143 : (Jvm.Cond.methodLink "RollbackGameLaw" (61 : Nat) ({ cls := "RollbackGame", name := "overAfter", desc := "()I" } : Jvm.MethodName)) ∈ lw_all := lw_g (lw_at lw_m1 126 rfl) rfl
theorem q147 : (Jvm.Cond.methodLink "RollbackGameLaw" (65 : Nat) ({ cls := "RollbackGame", name := "settled", desc := "()Z" } : Jvm.MethodName)) ∈ lw_all := lw_g (lw_at lw_m1 130 rfl) rfl
theorem q152 : (Jvm.Cond.classLink "RollbackGameLaw" (10 : Nat) "RollbackGameModel") ∈ lw_all := lw_g (lw_at lw_m1 135 rfl) rfl
theorem q154 : (Jvm.Cond.methodLink "RollbackGameLaw" (12 : Nat) ({ cls := "RollbackGameModel", name := "<init>", desc := "()V" } : Jvm.MethodName)) ∈ lw_all := lw_g (lw_at lw_m1 137 rfl) rfl
theorem q177 : (Jvm.Cond.methodLink "RollbackGameLaw" (17 : Nat) ({ cls := "RollbackGameModel", name := "arrive", desc := "(III)I" } : Jvm.MethodName)) ∈ lw_all := lw_g (lw_at lw_m1 160 rfl) rfl
theorem q214 : (Jvm.Cond.methodLink "RollbackGameLaw" (22 : Nat) ({ cls := "RollbackGameModel", name := "tick", desc := "()I" } : Jvm.MethodName)) ∈ lw_all := lw_g (lw_at lw_m1 197 rfl) rfl
theorem q218 : (Jvm.Cond.methodLink "RollbackGameLaw" (26 : Nat) ({ cls := "RollbackGameModel", name := "played", desc := "()I" } : Jvm.MethodName)) ∈ lw_all := lw_g (lw_at lw_m1 201 rfl) rfl
theorem q222 : (Jvm.Cond.methodLink "RollbackGameLaw" (30 : Nat) ({ cls := "RollbackGameModel", name := "sure", desc := "()I" } : Jvm.MethodName)) ∈ lw_all := lw_g (lw_at lw_m1 205 rfl) rfl
theorem q226 : (Jvm.Cond.methodLink "RollbackGameLaw" (35 : Nat) ({ cls := "RollbackGameModel", name := "position", desc := "(I)I" } : Jvm.MethodName)) ∈ lw_all := lw_g (lw_at lw_m1 209 rfl) rfl
theorem q230 : (Jvm.Cond.methodLink "RollbackGameLaw" (39 : Nat) ({ cls := "RollbackGameModel", name := "strength", desc := "(I)I" } : Jvm.MethodName)) ∈ lw_all := lw_g (lw_at lw_m1 213 rfl) rfl
theorem q234 : (Jvm.Cond.methodLink "RollbackGameLaw" (43 : Nat) ({ cls := "RollbackGameModel", name := "pause", desc := "(I)I" } : Jvm.MethodName)) ∈ lw_all := lw_g (lw_at lw_m1 217 rfl) rfl
theorem q238 : (Jvm.Cond.methodLink "RollbackGameLaw" (47 : Nat) ({ cls := "RollbackGameModel", name := "shown", desc := "(I)I" } : Jvm.MethodName)) ∈ lw_all := lw_g (lw_at lw_m1 221 rfl) rfl
theorem q242 : (Jvm.Cond.methodLink "RollbackGameLaw" (52 : Nat) ({ cls := "RollbackGameModel", name := "move", desc := "(II)I" } : Jvm.MethodName)) ∈ lw_all := lw_g (lw_at lw_m1 225 rfl) rfl
theorem q246 : (Jvm.Cond.methodLink "RollbackGameLaw" (56 : Nat) ({ cls := "RollbackGameModel", name := "missing", desc := "(I)I" } : Jvm.MethodName)) ∈ lw_all := lw_g (lw_at lw_m1 229 rfl) rfl
theorem q250 : (Jvm.Cond.methodLink "RollbackGameLaw" (60 : Nat) ({ cls := "RollbackGameModel", name := "winner", desc := "(I)I" } : Jvm.MethodName)) ∈ lw_all := lw_g (lw_at lw_m1 233 rfl) rfl
theorem q254 : (Jvm.Cond.methodLink "RollbackGameLaw" (64 : Nat) ({ cls := "RollbackGameModel", name := "overAfter", desc := "()I" } : Jvm.MethodName)) ∈ lw_all := lw_g (lw_at lw_m1 237 rfl) rfl
theorem q258 : (Jvm.Cond.methodLink "RollbackGameLaw" (69 : Nat) ({ cls := "RollbackGameModel", name := "settled", desc := "()Z" } : Jvm.MethodName)) ∈ lw_all := lw_g (lw_at lw_m2 1 rfl) rfl
end
section
/-! THE FRAME OF EVERY WALK HERE: one world (all cells of one object) per class, carried whole from row to row -/
abbrev vwCl : List vw_C := [(RX0, TX0, 7), (RX1, TX1, 6)]
/-- a function of naturals as an array's contents -/
def nF (f : Nat → Nat) : Nat → Int32 := fun j => nI (f j)
/-- an array of two numbers -/
def tw (a b : Nat) : Nat → Int32 := fun j => if j = 0 then nI a else if j = 1 then nI b else 0
def up (f : Nat → Nat) (k v : Nat) : Nat → Nat := fun j => if j = k then v else f j
theorem up_at (f : Nat → Nat) (k v : Nat) : up f k v k = v := by simp [up]
theorem up_ne (f : Nat → Nat) {k j : Nat} (v : Nat) (h : j ≠ k) : up f k v j = f j := by simp [up, h]
theorem nF_at (f : Nat → Nat) {i : Nat} (h : i < 2147483648) : nF f (nI i).toNatClampNeg = nI (f i) := by
  rw [nI_clamp (by omega)]; rfl
theorem nF_up (f : Nat → Nat) {i : Nat} (v : Nat) (h : i < 2147483648) : upd (nF f) (nI i).toNatClampNeg (nI v) = nF (up f i v) := by
  rw [nI_clamp (by omega)]
  funext j
  by_cases hj : j = i
  · simp [upd, nF, up, hj]
  · simp [upd, nF, up, hj]
theorem tw_0 (a b : Nat) : tw a b (nI 0).toNatClampNeg = nI a := by
  rw [nI_clamp (by decide)]; rfl
theorem tw_1 (a b : Nat) : tw a b (nI 1).toNatClampNeg = nI b := by
  rw [nI_clamp (by decide)]; rfl
theorem tw_u0 (a b v : Nat) : upd (tw a b) (nI 0).toNatClampNeg (nI v) = tw v b := by
  rw [nI_clamp (by decide)]
  funext j
  by_cases hj : j = 0
  · simp [upd, tw, hj]
  · simp [upd, tw, hj]
theorem tw_u1 (a b v : Nat) : upd (tw a b) (nI 1).toNatClampNeg (nI v) = tw a v := by
  rw [nI_clamp (by decide)]
  funext j
  by_cases hj : j = 1
  · simp [upd, tw, hj]
  · simp [upd, tw, hj]
theorem byte_nI {v : Nat} (h : v < 128) : (nI v).toInt8.toInt32 = nI v := by
  have key : ∀ k : Fin 128, (nI k.val).toInt8.toInt32 = nI k.val := by decide +kernel
  exact key ⟨v, h⟩
theorem nar_byte {v : Nat} (h : v < 128) : vp_nar .byte (nI v) = nI v := by rw [vp_nar_byte]; exact byte_nI h
theorem nar_bool {v : Nat} (h : v < 2) : vp_nar .boolean (nI v) = nI v := by
  have key : ∀ k : Fin 2, vp_nar .boolean (nI k.val) = nI k.val := by decide +kernel
  exact key ⟨v, h⟩
section XF
variable {S : Type}
/-- the heap holds the picture g, its cells apart and in A; nothing outside A has changed -/
def xS (D : va_G) (wf : S → va_W) (A : Nat → Prop) (s : State) (g : S) (H : Heap) (locs : List Loc) : Prop := va_P D vwCl (wf g) H ∧ va_D A (wf g) ∧ va_S A s.heap H locs
/-- what holds all through a method -/
def xC (p : Program) (s : State) (m : MethodId) (c : Code) (cc : ByteArray) (nL : Nat) (own : String) (args : Array Value) (A : Nat → Prop) (D : va_G) (tys : List (ClassId × FieldType)) : Prop :=
  p.tables.exec = Jvm.exec ∧ c.code = cc ∧ c.maxLocals = nL ∧ s.vm.findClass own = some m.cls ∧ (∀ w ∈ lw_all, w.before args s = true) ∧ va_K D vwCl tys s ∧ (∀ q : Nat, s.heap.size ≤ q → A q)
def xB (D : va_G) (wf : S → va_W) (tys : List (ClassId × FieldType)) (A : Nat → Prop) (u : S) (t : State) : Prop := va_P D vwCl (wf u) t.heap ∧ va_K D vwCl tys t ∧ va_D A (wf u)
def xPc (D : va_G) (wf : S → va_W) (tys : List (ClassId × FieldType)) (av : List Value) (g : S) (sz : Nat) : Array Value → State → Prop := va_Pc av (fun U => U.heap.size = sz ∧ xB D wf tys (fun _ => True) g U)
/-- the contract of a method that answers an int (or a boolean): from the picture g it comes to post -/
def XMi (l : Launch) (y : MethodName) (ws : List Cond) (rm : Room) (D : va_G) (wf : S → va_W) (tys : List (ClassId × FieldType)) (av : List Value) (g : S) (post : Int32 → S → Prop) : Prop :=
  ∀ sz : Nat, Met l y ws rm (xPc D wf tys av g sz) (va_Qi post (xB D wf tys (va_A (wf g) sz)) (va_A (wf g) sz)) 0 0 (va_A (wf g) sz)
/-- the contract of a void method -/
def XMv (l : Launch) (y : MethodName) (ws : List Cond) (rm : Room) (D : va_G) (wf : S → va_W) (tys : List (ClassId × FieldType)) (av : List Value) (g : S) (post : S → Prop) : Prop :=
  ∀ sz : Nat, Met l y ws rm (xPc D wf tys av g sz) (va_Qv post (xB D wf tys (va_A (wf g) sz)) (va_A (wf g) sz)) 0 0 (va_A (wf g) sz)
theorem xPc_blind {D : va_G} {wf : S → va_W} {tys : List (ClassId × FieldType)} {av : List Value} {g : S} {sz : Nat} : FrameBlind (xPc D wf tys av g sz) := by
  intro a U f mk q
  obtain ⟨q0, q1, qP, qK, qD⟩ := q
  exact ⟨q0, q1, qP, va_K.moved (u := U) (U := U.calling f mk a) (Vm.Alike.refl U.vm) qK, qD⟩
/-- entry of an int method -/
theorem xe_i {l : Launch} {y : MethodName} {cc : ByteArray} {nL : Nat} {ty : FieldType} {rm : Room} {D : va_G} {wf : S → va_W} {tys : List (ClassId × FieldType)} {av : List Value} {g : S} {post : Int32 → S → Prop} {own : String} (hy : plainName y.cls = true) (hyo : y.cls = own) (hlen : (lg_sl av).length ≤ nL)
    (body : ∀ (p : Program) (e : Env) (s : State) (m : MethodId) (below : List Frame) (meth : Method) (c : Code) (A : Nat → Prop) (R : Room) (args : Array Value) (Q : State → Prop), R = rm → xC p s m c cc nL own args A D tys →
      (∀ (r : Int32) (u : S) (H : Heap) (locs : List Loc) (pc : Nat) (ls : Array Slot), xS D wf A s u H locs → post r u → narrow ty (.int r) = .int r → decode cc pc = .ok (.ireturn, 1) → W p l e R s m args below meth c H locs 0 0 Q (F0 m pc ls [.int r])) →
      ∀ (H : Heap) (locs : List Loc), xS D wf A s g H locs → ∀ ls : Array Slot, lv_has ls nL (lv_args 0 av) → W p l e R s m args below meth c H locs 0 0 Q (F0 m 0 ls [])) : XMi l y (ws_ y cc nL (some ty)) rm D wf tys av g post := by
  intro sz
  refine Met.ofW (cc := cc) (maxL := nL) (ret := some ty) hy rfl ?_
  intro p e s m args below meth c s₁ B hml hv
  obtain ⟨rfl, hsz, hP, hK, hD0⟩ := hv
  have hts := atoms_spec (ws := ws_ y cc nL (some ty)) B.pre
  have hts : ∀ w ∈ lw_all, w.before _ s = true := fun w h => hts w (List.mem_cons_of_mem _ h)
  have hown : s.vm.findClass own = some m.cls := by rw [← hyo]; exact findClass_of_methodNamed B.named
  have hr := B.returns
  have hlocks : meth.locks = false := B.notSynchronized
  have hx := B.exec
  have hb := B.bytes
  subst hsz
  have hD := hD0.self (sz := s.heap.size)
  have hl := lv_entry av (n := nL) hlen
  rw [lg_entry_eq]
  refine body p e s m below meth c (va_A (wf g) s.heap.size) rm _ _ rfl ⟨hx, hb, hml, hown, hts, hK, fun q h => Or.inr h⟩ ?_ s.heap [] ⟨hP, hD, va_S.rf⟩ _ hl
  intro r u H locs pc ls hG hp hn hd
  exact W.zret (v := r) hx hb hr hn (fun t ht hW => ⟨⟨r, u, rfl, hp, by rw [ht]; exact hG.1, va_K.moved hW.alike hK, hG.2.1⟩, hG.2.2.F ht⟩) hG.2.2.2.2 hd
/-- entry of a void method -/
theorem xe_v {l : Launch} {y : MethodName} {cc : ByteArray} {nL : Nat} {rm : Room} {D : va_G} {wf : S → va_W} {tys : List (ClassId × FieldType)} {av : List Value} {g : S} {post : S → Prop} {own : String} (hy : plainName y.cls = true) (hyo : y.cls = own) (hlen : (lg_sl av).length ≤ nL)
    (body : ∀ (p : Program) (e : Env) (s : State) (m : MethodId) (below : List Frame) (meth : Method) (c : Code) (A : Nat → Prop) (R : Room) (args : Array Value) (Q : State → Prop), R = rm → xC p s m c cc nL own args A D tys →
      (∀ (u : S) (H : Heap) (locs : List Loc) (pc : Nat) (ls : Array Slot), xS D wf A s u H locs → post u → decode cc pc = .ok (.return_, 1) → W p l e R s m args below meth c H locs 0 0 Q (F0 m pc ls [])) →
      ∀ (H : Heap) (locs : List Loc), xS D wf A s g H locs → ∀ ls : Array Slot, lv_has ls nL (lv_args 0 av) → W p l e R s m args below meth c H locs 0 0 Q (F0 m 0 ls [])) : XMv l y (ws_ y cc nL none) rm D wf tys av g post := by
  intro sz
  refine Met.ofW (cc := cc) (maxL := nL) (ret := none) hy rfl ?_
  intro p e s m args below meth c s₁ B hml hv
  obtain ⟨rfl, hsz, hP, hK, hD0⟩ := hv
  have hts := atoms_spec (ws := ws_ y cc nL none) B.pre
  have hts : ∀ w ∈ lw_all, w.before _ s = true := fun w h => hts w (List.mem_cons_of_mem _ h)
  have hown : s.vm.findClass own = some m.cls := by rw [← hyo]; exact findClass_of_methodNamed B.named
  have hr := B.returns
  have hlocks : meth.locks = false := B.notSynchronized
  have hx := B.exec
  have hb := B.bytes
  subst hsz
  have hD := hD0.self (sz := s.heap.size)
  have hl := lv_entry av (n := nL) hlen
  rw [lg_entry_eq]
  refine body p e s m below meth c (va_A (wf g) s.heap.size) rm _ _ rfl ⟨hx, hb, hml, hown, hts, hK, fun q h => Or.inr h⟩ ?_ s.heap [] ⟨hP, hD, va_S.rf⟩ _ hl
  intro u H locs pc ls hG hp hd
  exact W.vret hx hb hr (fun t ht hW => ⟨⟨u, rfl, hp, by rw [ht]; exact hG.1, va_K.moved hW.alike hK, hG.2.1⟩, hG.2.2.F ht⟩) hG.2.2.2.2 hd
end XF
section XR
variable {S : Type} {p : Program} {l : Launch} {e : Env} {R : Room} {s : State} {m : MethodId} {args : Array Value} {below : List Frame} {meth : Method} {c : Code} {H : Heap} {locs : List Loc} {Q : State → Prop}
variable {cc : ByteArray} {pc nL : Nat} {ls : Array Slot} {rest st : List Value} {D : va_G} {A : Nat → Prop} {tys : List (ClassId × FieldType)} {own : String} {wf : S → va_W} {g : S}
theorem xS_free (hC : xC p s m c cc nL own args A D tys) (hG : xS D wf A s g H locs) : ∀ q, va_A (wf g) H.size q → A q := by
  intro q h
  rcases h with ⟨k, e, h⟩ | h
  · exact hG.2.1.2 k (q, e) h
  · exact hC.2.2.2.2.2.2 q (Nat.le_trans hG.2.2.1 h)
/-- a call through this object, int answer, the callee's world is the caller's -/
theorem xc_vi {y : MethodName} {bytes : ByteArray} {maxL : Nat} {ty : FieldType} {rm : Room} {As : List Value} {b idx n ci q0 : Nat} {C : String} {T : u_T} {N : Nat} {fs : List Value} {post : Int32 → S → Prop}
    (hC : xC p s m c cc nL own args A D tys) (hG : xS D wf A s g H locs) (hM : XMi l y (ws_ y bytes maxL (some ty)) rm D wf tys (.ref b :: As) g post) (hq : GoodIn lw_all (wsV own idx C y (ws_ y bytes maxL (some ty))))
    (hd : y.cls = C ∧ y.cls ≠ "java/lang/invoke/MethodHandle" ∧ y.cls ≠ "java/lang/invoke/VarHandle" ∧ (parseMethodDescriptor y.desc).map (fun d => d.parameters.length) = some n) (hrc : rm.cells = 0) (hrs : rm.slots = 0) (hR : rm.frames + 1 ≤ R.frames ∧ 8 + (maxL + 11) + rm.locals ≤ R.locals)
    (hc : vwCl[ci]? = some (C, T, N)) (he : (wf g)[q0]? = some (b, .inr (ci, fs))) (hn : As.length = n) (hls : ls.size = nL) (hst : st = As.reverse ++ .ref b :: rest) (h8 : (rest.map fun v => v.category).sum ≤ 8) (hdg : decode cc pc = .ok (.invokevirtual idx, 3))
    (kk : ∀ (r : Int32) (u : S) (H : Heap) (locs : List Loc), post r u → xS D wf A s u H locs → W p l e R s m args below meth c H locs 0 0 Q (F0 m (pc + 3) ls (.int r :: rest))) : W p l e R s m args below meth c H locs 0 0 Q (F0 m pc ls st) := by
  have hF := xS_free hC hG
  obtain ⟨hx, hb, hml, hown, hts, hK, hA⟩ := hC
  refine va_calli (va_runV (As := As) (rest := rest) ⟨hx, hb, hml, hown, hts⟩ (hM H.size) (cwV n hts hq rfl hrc hrs hd hR) ⟨xPc_blind, va_recv hK hG.1 hc he, fun U hU hW => ⟨rfl, by rw [hU], by rw [hU]; exact hG.1, va_K.moved hW.alike hK, hG.2.1.weaken (fun _ _ _ _ => trivial)⟩⟩ rfl hn hls hst (lv_room h8) hdg ⟨Nat.zero_le _, Nat.zero_le _⟩) hG.2.2 (fun q _ h => hF q h) hF (fun r u t H1 locs1 ht hvm hp hB hz hk hS1 => ?_)
  obtain ⟨hP1, hK1, hD1⟩ := hB
  exact kk r u H1 locs1 hp ⟨by rw [← ht]; exact hP1, hD1.weaken (fun k q _ h => hF q.1 h), hS1⟩
theorem xc_vv {y : MethodName} {bytes : ByteArray} {maxL : Nat} {rm : Room} {As : List Value} {b idx n ci q0 : Nat} {C : String} {T : u_T} {N : Nat} {fs : List Value} {post : S → Prop}
    (hC : xC p s m c cc nL own args A D tys) (hG : xS D wf A s g H locs) (hM : XMv l y (ws_ y bytes maxL none) rm D wf tys (.ref b :: As) g post) (hq : GoodIn lw_all (wsV own idx C y (ws_ y bytes maxL none)))
    (hd : y.cls = C ∧ y.cls ≠ "java/lang/invoke/MethodHandle" ∧ y.cls ≠ "java/lang/invoke/VarHandle" ∧ (parseMethodDescriptor y.desc).map (fun d => d.parameters.length) = some n) (hrc : rm.cells = 0) (hrs : rm.slots = 0) (hR : rm.frames + 1 ≤ R.frames ∧ 8 + (maxL + 11) + rm.locals ≤ R.locals)
    (hc : vwCl[ci]? = some (C, T, N)) (he : (wf g)[q0]? = some (b, .inr (ci, fs))) (hn : As.length = n) (hls : ls.size = nL) (hst : st = As.reverse ++ .ref b :: rest) (h8 : (rest.map fun v => v.category).sum ≤ 8) (hdg : decode cc pc = .ok (.invokevirtual idx, 3))
    (kk : ∀ (u : S) (H : Heap) (locs : List Loc), post u → xS D wf A s u H locs → W p l e R s m args below meth c H locs 0 0 Q (F0 m (pc + 3) ls rest)) : W p l e R s m args below meth c H locs 0 0 Q (F0 m pc ls st) := by
  have hF := xS_free hC hG
  obtain ⟨hx, hb, hml, hown, hts, hK, hA⟩ := hC
  refine va_callv (va_runV (As := As) (rest := rest) ⟨hx, hb, hml, hown, hts⟩ (hM H.size) (cwV n hts hq rfl hrc hrs hd hR) ⟨xPc_blind, va_recv hK hG.1 hc he, fun U hU hW => ⟨rfl, by rw [hU], by rw [hU]; exact hG.1, va_K.moved hW.alike hK, hG.2.1.weaken (fun _ _ _ _ => trivial)⟩⟩ rfl hn hls hst (lv_room h8) hdg ⟨Nat.zero_le _, Nat.zero_le _⟩) hG.2.2 (fun q _ h => hF q h) hF (fun u t H1 locs1 ht hvm hp hB hz hk hS1 => ?_)
  obtain ⟨hP1, hK1, hD1⟩ := hB
  exact kk u H1 locs1 hp ⟨by rw [← ht]; exact hP1, hD1.weaken (fun k q _ h => hF q.1 h), hS1⟩
/-- a static call, int answer, the world carried along -/
theorem xc_si {y : MethodName} {bytes : ByteArray} {maxL : Nat} {ty : FieldType} {rm : Room} {As : List Value} {idx n : Nat} {post : Int32 → S → Prop}
    (hC : xC p s m c cc nL own args A D tys) (hG : xS D wf A s g H locs) (hM : XMi l y (ws_ y bytes maxL (some ty)) rm D wf tys As g post) (hq : GoodIn lw_all (va_wsS own idx y (ws_ y bytes maxL (some ty))))
    (hd : y.cls ≠ "java/lang/invoke/MethodHandle" ∧ y.cls ≠ "java/lang/invoke/VarHandle" ∧ (parseMethodDescriptor y.desc).map (fun d => d.parameters.length) = some n) (hrc : rm.cells = 0) (hrs : rm.slots = 0) (hR : rm.frames + 1 ≤ R.frames ∧ 8 + (maxL + 11) + rm.locals ≤ R.locals)
    (hn : As.length = n) (hls : ls.size = nL) (hst : st = As.reverse ++ rest) (h8 : (rest.map fun v => v.category).sum ≤ 8) (hdg : decode cc pc = .ok (.invokestatic idx, 3))
    (kk : ∀ (r : Int32) (u : S) (H : Heap) (locs : List Loc), post r u → xS D wf A s u H locs → W p l e R s m args below meth c H locs 0 0 Q (F0 m (pc + 3) ls (.int r :: rest))) : W p l e R s m args below meth c H locs 0 0 Q (F0 m pc ls st) := by
  have hF := xS_free hC hG
  obtain ⟨hx, hb, hml, hown, hts, hK, hA⟩ := hC
  refine va_calli (va_runS (As := As) (rest := rest) ⟨hx, hb, hml, hown, hts⟩ (hM H.size) (va_cwS n hts hq rfl hrc hrs hd hR) ⟨xPc_blind, fun U hU hW => ⟨rfl, by rw [hU], by rw [hU]; exact hG.1, va_K.moved hW.alike hK, hG.2.1.weaken (fun _ _ _ _ => trivial)⟩⟩ rfl hn hls hst (lv_room h8) hdg ⟨Nat.zero_le _, Nat.zero_le _⟩) hG.2.2 (fun q _ h => hF q h) hF (fun r u t H1 locs1 ht hvm hp hB hz hk hS1 => ?_)
  obtain ⟨hP1, hK1, hD1⟩ := hB
  exact kk r u H1 locs1 hp ⟨by rw [← ht]; exact hP1, hD1.weaken (fun k q _ h => hF q.1 h), hS1⟩
end XR
section NR
variable {p : Program} {l : Launch} {e : Env} {R : Room} {s : State} {m : MethodId} {args : Array Value} {below : List Frame} {meth : Method} {c : Code} {H : Heap} {locs : List Loc} {cells slots : Nat} {Q : State → Prop}
variable {cc : ByteArray} {pc : Nat} {ls : Array Slot} {rest : List Value} {a b : Nat}
theorem n_ldc (hexec : p.tables.exec = Jvm.exec) (hb : c.code = cc) {own : String} {index k : Nat} {v : Int32} (hown : s.vm.findClass own = some m.cls) (hconst : (Jvm.Cond.constant own index v).before args s = true) (hv : v = nI k) (hdg : decode cc pc = .ok (.ldc index, 2)) (kk : W p l e R s m args below meth c H locs cells slots Q (F0 m (pc + 2) ls (.int (nI k) :: rest))) : W p l e R s m args below meth c H locs cells slots Q (F0 m pc ls rest) := lv_ldc hexec hb hown hconst hdg (by rw [hv]; exact kk)
theorem n_add (hexec : p.tables.exec = Jvm.exec) (hb : c.code = cc) (hdg : decode cc pc = .ok (.iadd, 1)) (k : W p l e R s m args below meth c H locs cells slots Q (F0 m (pc + 1) ls (.int (nI (a + b)) :: rest))) : W p l e R s m args below meth c H locs cells slots Q (F0 m pc ls (.int (nI b) :: .int (nI a) :: rest)) := lv_iadd hexec hb hdg (by rw [nI_add]; exact k)
theorem n_mul (hexec : p.tables.exec = Jvm.exec) (hb : c.code = cc) (hdg : decode cc pc = .ok (.imul, 1)) (k : W p l e R s m args below meth c H locs cells slots Q (F0 m (pc + 1) ls (.int (nI (a * b)) :: rest))) : W p l e R s m args below meth c H locs cells slots Q (F0 m pc ls (.int (nI b) :: .int (nI a) :: rest)) := lv_imul hexec hb hdg (by rw [pk_mul]; exact k)
theorem n_sub (h : b ≤ a) (hexec : p.tables.exec = Jvm.exec) (hb : c.code = cc) (hdg : decode cc pc = .ok (.isub, 1)) (k : W p l e R s m args below meth c H locs cells slots Q (F0 m (pc + 1) ls (.int (nI (a - b)) :: rest))) : W p l e R s m args below meth c H locs cells slots Q (F0 m pc ls (.int (nI b) :: .int (nI a) :: rest)) := lv_isub hexec hb hdg (by rw [pk_sub h]; exact k)
theorem n_div (ha : a < 2147483648) (h0 : 0 < b ∧ b < 2147483648) (hexec : p.tables.exec = Jvm.exec) (hb : c.code = cc) (hdg : decode cc pc = .ok (.idiv, 1)) (k : W p l e R s m args below meth c H locs cells slots Q (F0 m (pc + 1) ls (.int (nI (a / b)) :: rest))) : W p l e R s m args below meth c H locs cells slots Q (F0 m pc ls (.int (nI b) :: .int (nI a) :: rest)) := lv_idiv hexec hb hdg (nI_ne0 h0.1 (by omega)) (by rw [pk_div (by omega) h0.1 (by omega)]; exact k)
theorem n_rem (ha : a < 2147483648) (h0 : 0 < b ∧ b < 2147483648) (hexec : p.tables.exec = Jvm.exec) (hb : c.code = cc) (hdg : decode cc pc = .ok (.irem, 1)) (k : W p l e R s m args below meth c H locs cells slots Q (F0 m (pc + 1) ls (.int (nI (a % b)) :: rest))) : W p l e R s m args below meth c H locs cells slots Q (F0 m pc ls (.int (nI b) :: .int (nI a) :: rest)) := lv_irem hexec hb hdg (nI_ne0 h0.1 (by omega)) (by rw [pk_rem (by omega) h0.1 (by omega)]; exact k)
theorem n_i2b (h : a < 128) (hexec : p.tables.exec = Jvm.exec) (hb : c.code = cc) (hdg : decode cc pc = .ok (.i2b, 1)) (k : W p l e R s m args below meth c H locs cells slots Q (F0 m (pc + 1) ls (.int (nI a) :: rest))) : W p l e R s m args below meth c H locs cells slots Q (F0 m pc ls (.int (nI a) :: rest)) := lv_i2b hexec hb hdg (byte_nI h) k
/-- the number on top, under another name -/
theorem n_as {a : Nat} (a' : Nat) (h : a = a') (k : W p l e R s m args below meth c H locs cells slots Q (F0 m pc ls (.int (nI a') :: rest))) : W p l e R s m args below meth c H locs cells slots Q (F0 m pc ls (.int (nI a) :: rest)) := by
  rw [h]; exact k
theorem i_as {x : Int32} (x' : Int32) (h : x = x') (k : W p l e R s m args below meth c H locs cells slots Q (F0 m pc ls (.int x' :: rest))) : W p l e R s m args below meth c H locs cells slots Q (F0 m pc ls (.int x :: rest)) := by
  rw [h]; exact k
theorem n_eq0 (ha : a < 2147483648) : nI a = 0 ↔ a = 0 := by
  rw [← nI_0]; exact nI_eq (by omega) (by decide)
theorem n_le0 (ha : a < 2147483648) : nI a ≤ 0 ↔ a = 0 := by
  rw [← nI_0, nI_leI (by omega) (by decide)]; omega
theorem n_if_eq (ha : a < 2147483648) (hexec : p.tables.exec = Jvm.exec) (hb : c.code = cc) {off : Int} {tgt : Nat} (hdg : decode cc pc = .ok (.ifCond .eq off, 3)) (ht : (pc : Int) + off = (tgt : Int))
    (kt : a = 0 → W p l e R s m args below meth c H locs cells slots Q (F0 m tgt ls rest)) (kf : ¬ a = 0 → W p l e R s m args below meth c H locs cells slots Q (F0 m (pc + 3) ls rest)) : W p l e R s m args below meth c H locs cells slots Q (F0 m pc ls (.int (nI a) :: rest)) := lv_if_eq hexec hb hdg ht (fun h => kt ((n_eq0 ha).mp h)) (fun h => kf (fun z => h ((n_eq0 ha).mpr z)))
theorem n_if_ne (ha : a < 2147483648) (hexec : p.tables.exec = Jvm.exec) (hb : c.code = cc) {off : Int} {tgt : Nat} (hdg : decode cc pc = .ok (.ifCond .ne off, 3)) (ht : (pc : Int) + off = (tgt : Int))
    (kt : ¬ a = 0 → W p l e R s m args below meth c H locs cells slots Q (F0 m tgt ls rest)) (kf : a = 0 → W p l e R s m args below meth c H locs cells slots Q (F0 m (pc + 3) ls rest)) : W p l e R s m args below meth c H locs cells slots Q (F0 m pc ls (.int (nI a) :: rest)) := lv_if_ne hexec hb hdg ht (fun h => kt (fun z => h ((n_eq0 ha).mpr z))) (fun h => kf ((n_eq0 ha).mp h))
theorem n_if_le (ha : a < 2147483648) (hexec : p.tables.exec = Jvm.exec) (hb : c.code = cc) {off : Int} {tgt : Nat} (hdg : decode cc pc = .ok (.ifCond .le off, 3)) (ht : (pc : Int) + off = (tgt : Int))
    (kt : a = 0 → W p l e R s m args below meth c H locs cells slots Q (F0 m tgt ls rest)) (kf : ¬ a = 0 → W p l e R s m args below meth c H locs cells slots Q (F0 m (pc + 3) ls rest)) : W p l e R s m args below meth c H locs cells slots Q (F0 m pc ls (.int (nI a) :: rest)) := lv_if_le hexec hb hdg ht (fun h => kt ((n_le0 ha).mp h)) (fun h => kf (fun z => h ((n_le0 ha).mpr z)))
theorem n_icmp_eq (ha : a < 2147483648 ∧ b < 2147483648) (hexec : p.tables.exec = Jvm.exec) (hb : c.code = cc) {off : Int} {tgt : Nat} (hdg : decode cc pc = .ok (.if_icmp .eq off, 3)) (ht : (pc : Int) + off = (tgt : Int))
    (kt : a = b → W p l e R s m args below meth c H locs cells slots Q (F0 m tgt ls rest)) (kf : ¬ a = b → W p l e R s m args below meth c H locs cells slots Q (F0 m (pc + 3) ls rest)) : W p l e R s m args below meth c H locs cells slots Q (F0 m pc ls (.int (nI b) :: .int (nI a) :: rest)) := by
  have h0 : nI a = nI b ↔ a = b := nI_eq (by omega) (by omega)
  exact lv_icmp_eq hexec hb hdg ht (fun h => kt (h0.mp h)) (fun h => kf (fun z => h (h0.mpr z)))
theorem n_icmp_ne (ha : a < 2147483648 ∧ b < 2147483648) (hexec : p.tables.exec = Jvm.exec) (hb : c.code = cc) {off : Int} {tgt : Nat} (hdg : decode cc pc = .ok (.if_icmp .ne off, 3)) (ht : (pc : Int) + off = (tgt : Int))
    (kt : ¬ a = b → W p l e R s m args below meth c H locs cells slots Q (F0 m tgt ls rest)) (kf : a = b → W p l e R s m args below meth c H locs cells slots Q (F0 m (pc + 3) ls rest)) : W p l e R s m args below meth c H locs cells slots Q (F0 m pc ls (.int (nI b) :: .int (nI a) :: rest)) := by
  have h0 : nI a = nI b ↔ a = b := nI_eq (by omega) (by omega)
  exact lv_icmp_ne hexec hb hdg ht (fun h => kt (fun z => h (h0.mpr z))) (fun h => kf (h0.mp h))
theorem n_icmp_lt (ha : a < 2147483648 ∧ b < 2147483648) (hexec : p.tables.exec = Jvm.exec) (hb : c.code = cc) {off : Int} {tgt : Nat} (hdg : decode cc pc = .ok (.if_icmp .lt off, 3)) (ht : (pc : Int) + off = (tgt : Int))
    (kt : a < b → W p l e R s m args below meth c H locs cells slots Q (F0 m tgt ls rest)) (kf : ¬ a < b → W p l e R s m args below meth c H locs cells slots Q (F0 m (pc + 3) ls rest)) : W p l e R s m args below meth c H locs cells slots Q (F0 m pc ls (.int (nI b) :: .int (nI a) :: rest)) := by
  have h0 : nI a < nI b ↔ a < b := nI_ltI (by omega) (by omega)
  exact lv_icmp_lt hexec hb hdg ht (fun h => kt (h0.mp h)) (fun h => kf (fun z => h (h0.mpr z)))
theorem n_icmp_ge (ha : a < 2147483648 ∧ b < 2147483648) (hexec : p.tables.exec = Jvm.exec) (hb : c.code = cc) {off : Int} {tgt : Nat} (hdg : decode cc pc = .ok (.if_icmp .ge off, 3)) (ht : (pc : Int) + off = (tgt : Int))
    (kt : b ≤ a → W p l e R s m args below meth c H locs cells slots Q (F0 m tgt ls rest)) (kf : ¬ b ≤ a → W p l e R s m args below meth c H locs cells slots Q (F0 m (pc + 3) ls rest)) : W p l e R s m args below meth c H locs cells slots Q (F0 m pc ls (.int (nI b) :: .int (nI a) :: rest)) := by
  have h0 : nI b ≤ nI a ↔ b ≤ a := nI_leI (by omega) (by omega)
  exact lv_icmp_ge hexec hb hdg ht (fun h => kt (h0.mp h)) (fun h => kf (fun z => h (h0.mpr z)))
theorem n_icmp_gt (ha : a < 2147483648 ∧ b < 2147483648) (hexec : p.tables.exec = Jvm.exec) (hb : c.code = cc) {off : Int} {tgt : Nat} (hdg : decode cc pc = .ok (.if_icmp .gt off, 3)) (ht : (pc : Int) + off = (tgt : Int))
    (kt : b < a → W p l e R s m args below meth c H locs cells slots Q (F0 m tgt ls rest)) (kf : ¬ b < a → W p l e R s m args below meth c H locs cells slots Q (F0 m (pc + 3) ls rest)) : W p l e R s m args below meth c H locs cells slots Q (F0 m pc ls (.int (nI b) :: .int (nI a) :: rest)) := by
  have h0 : nI b < nI a ↔ b < a := nI_ltI (by omega) (by omega)
  exact lv_icmp_gt hexec hb hdg ht (fun h => kt (h0.mp h)) (fun h => kf (fun z => h (h0.mpr z)))
theorem n_icmp_le (ha : a < 2147483648 ∧ b < 2147483648) (hexec : p.tables.exec = Jvm.exec) (hb : c.code = cc) {off : Int} {tgt : Nat} (hdg : decode cc pc = .ok (.if_icmp .le off, 3)) (ht : (pc : Int) + off = (tgt : Int))
    (kt : a ≤ b → W p l e R s m args below meth c H locs cells slots Q (F0 m tgt ls rest)) (kf : ¬ a ≤ b → W p l e R s m args below meth c H locs cells slots Q (F0 m (pc + 3) ls rest)) : W p l e R s m args below meth c H locs cells slots Q (F0 m pc ls (.int (nI b) :: .int (nI a) :: rest)) := by
  have h0 : nI a ≤ nI b ↔ a ≤ b := nI_leI (by omega) (by omega)
  exact lv_icmp_le hexec hb hdg ht (fun h => kt (h0.mp h)) (fun h => kf (fun z => h (h0.mpr z)))
end NR
end
section
/-! THE TWO WORLDS: X0 (RollbackGame): gw ad ca (ar, us, sv, d, p0, p1, h0, h1, w0, w1); X1 (RollbackGameModel): mw ad ca (mv, bf, d, p0, p1, h0, h1, w0, w1) -/
abbrev Fi : Type := Nat × Nat × Nat × Nat × Nat × Nat
abbrev S0 : Type := (Nat → Nat) × (Nat → Nat) × (Nat → Nat) × Nat × Fi
abbrev S1 : Type := (Nat → Nat) × (Nat → Nat) × Nat × Fi
def gw (ad : Nat → Nat) (ca : Nat → ClassId) (g : S0) : va_W := [(ad 0, .inr (0, [.ref (ad 1), .ref (ad 2), .ref (ad 3), .int (nI g.2.2.2.1), .ref (ad 4), .ref (ad 5), .ref (ad 6)])), (ad 1, .inl (ca 1, 80, .inl (nF g.1))), (ad 2, .inl (ca 2, 80, .inl (nF g.2.1))), (ad 3, .inl (ca 3, 41, .inl (nF g.2.2.1))), (ad 4, .inl (ca 4, 2, .inl (tw g.2.2.2.2.1 g.2.2.2.2.2.1))), (ad 5, .inl (ca 5, 2, .inl (tw g.2.2.2.2.2.2.1 g.2.2.2.2.2.2.2.1))), (ad 6, .inl (ca 6, 2, .inl (tw g.2.2.2.2.2.2.2.2.1 g.2.2.2.2.2.2.2.2.2)))]
def gt (ca : Nat → ClassId) : List (ClassId × FieldType) := [(ca 1, .boolean), (ca 2, .byte), (ca 3, .int), (ca 4, .byte), (ca 5, .byte), (ca 6, .byte)]
def mw (ad : Nat → Nat) (ca : Nat → ClassId) (g : S1) : va_W := [(ad 0, .inr (1, [.ref (ad 1), .int (nI g.2.2.1), .ref (ad 2), .ref (ad 3), .ref (ad 4), .ref (ad 5)])), (ad 1, .inl (ca 1, 80, .inl (nF g.1))), (ad 2, .inl (ca 2, 2, .inl (tw g.2.2.2.1 g.2.2.2.2.1))), (ad 3, .inl (ca 3, 2, .inl (tw g.2.2.2.2.2.1 g.2.2.2.2.2.2.1))), (ad 4, .inl (ca 4, 2, .inl (tw g.2.2.2.2.2.2.2.1 g.2.2.2.2.2.2.2.2))), (ad 5, .inl (ca 5, 41, .inl (nF g.2.1)))]
def mt (ca : Nat → ClassId) : List (ClassId × FieldType) := [(ca 1, .int), (ca 2, .int), (ca 3, .int), (ca 4, .int), (ca 5, .int)]
section WR
variable {p : Program} {l : Launch} {e : Env} {R : Room} {s : State} {m : MethodId} {args : Array Value} {below : List Frame} {meth : Method} {c : Code} {H : Heap} {locs : List Loc} {Q : State → Prop}
variable {cc : ByteArray} {pc nL : Nat} {ls : Array Slot} {rest : List Value} {D : va_G} {A : Nat → Prop} {ad : Nat → Nat} {ca : Nat → ClassId} {g0 : S0} {g1 : S1} {ar us sv mv bf : Nat → Nat} {d p0 p1 h0 h1 w0 w1 i v : Nat}
theorem g_f_ar (hC : xC p s m c cc nL RX0 args A D (gt ca)) (hG : xS D (gw ad ca) A s g0 H locs) (hdg : decode cc pc = .ok (.getfield 7, 3)) (k : W p l e R s m args below meth c H locs 0 0 Q (F0 m (pc + 3) ls (.ref (ad 1) :: rest))) : W p l e R s m args below meth c H locs 0 0 Q (F0 m pc ls (.ref (ad 0) :: rest)) := va_get (D := D) (ci := 0) (v := .ref (ad 1)) (C := RX0) (T := TX0) (N := 7) hC.1 hC.2.1 hC.2.2.2.2.1 in_X0 hC.2.2.2.1 hC.2.2.2.2.2.1 hG.1 0 rfl rfl 0 (by decide) (hC.2.2.2.2.1 _ q56) (fun _ h9 => h9) rfl hdg k
theorem g_f_us (hC : xC p s m c cc nL RX0 args A D (gt ca)) (hG : xS D (gw ad ca) A s g0 H locs) (hdg : decode cc pc = .ok (.getfield 13, 3)) (k : W p l e R s m args below meth c H locs 0 0 Q (F0 m (pc + 3) ls (.ref (ad 2) :: rest))) : W p l e R s m args below meth c H locs 0 0 Q (F0 m pc ls (.ref (ad 0) :: rest)) := va_get (D := D) (ci := 0) (v := .ref (ad 2)) (C := RX0) (T := TX0) (N := 7) hC.1 hC.2.1 hC.2.2.2.2.1 in_X0 hC.2.2.2.1 hC.2.2.2.2.2.1 hG.1 0 rfl rfl 1 (by decide) (hC.2.2.2.2.1 _ q57) (fun _ h9 => h9) rfl hdg k
theorem g_f_sv (hC : xC p s m c cc nL RX0 args A D (gt ca)) (hG : xS D (gw ad ca) A s g0 H locs) (hdg : decode cc pc = .ok (.getfield 17, 3)) (k : W p l e R s m args below meth c H locs 0 0 Q (F0 m (pc + 3) ls (.ref (ad 3) :: rest))) : W p l e R s m args below meth c H locs 0 0 Q (F0 m pc ls (.ref (ad 0) :: rest)) := va_get (D := D) (ci := 0) (v := .ref (ad 3)) (C := RX0) (T := TX0) (N := 7) hC.1 hC.2.1 hC.2.2.2.2.1 in_X0 hC.2.2.2.1 hC.2.2.2.2.2.1 hG.1 0 rfl rfl 2 (by decide) (hC.2.2.2.2.1 _ q58) (fun _ h9 => h9) rfl hdg k
theorem g_f_d (hC : xC p s m c cc nL RX0 args A D (gt ca)) (hG : xS D (gw ad ca) A s (ar, us, sv, d, p0, p1, h0, h1, w0, w1) H locs) (hdg : decode cc pc = .ok (.getfield 62, 3)) (k : W p l e R s m args below meth c H locs 0 0 Q (F0 m (pc + 3) ls (.int (nI d) :: rest))) : W p l e R s m args below meth c H locs 0 0 Q (F0 m pc ls (.ref (ad 0) :: rest)) := va_get (D := D) (ci := 0) (v := .int (nI d)) (C := RX0) (T := TX0) (N := 7) hC.1 hC.2.1 hC.2.2.2.2.1 in_X0 hC.2.2.2.1 hC.2.2.2.2.2.1 hG.1 0 rfl rfl 3 (by decide) (hC.2.2.2.2.1 _ q59) (fun _ h9 => h9) rfl hdg k
theorem g_p_d (hC : xC p s m c cc nL RX0 args A D (gt ca)) (hG : xS D (gw ad ca) A s (ar, us, sv, d, p0, p1, h0, h1, w0, w1) H locs) (hdg : decode cc pc = .ok (.putfield 62, 3)) (k : ∀ (H : Heap) (locs : List Loc), xS D (gw ad ca) A s (ar, us, sv, v, p0, p1, h0, h1, w0, w1) H locs → W p l e R s m args below meth c H locs 0 0 Q (F0 m (pc + 3) ls (rest))) : W p l e R s m args below meth c H locs 0 0 Q (F0 m pc ls (.int (nI v) :: .ref (ad 0) :: rest)) := by
  refine va_put (D := D) (ci := 0) (v := .int (nI v)) (ty := .int) (C := RX0) (T := TX0) (N := 7) hC.1 hC.2.1 hC.2.2.2.2.1 in_X0 tyX0 tyX0_ok nmX0 hC.2.2.2.1 hC.2.2.2.2.2.1 hG.1 hG.2.1 hG.2.2 0 rfl rfl 3 (by decide) (hC.2.2.2.2.1 _ q59) (fun _ h9 => h9) rfl (by decide +kernel) rfl rfl (Nat.le_of_ble_eq_true rfl) hdg (fun H locs hP hD hS => ?_)
  exact k H locs ⟨hP, hD, hS⟩
theorem g_f_pl (hC : xC p s m c cc nL RX0 args A D (gt ca)) (hG : xS D (gw ad ca) A s g0 H locs) (hdg : decode cc pc = .ok (.getfield 21, 3)) (k : W p l e R s m args below meth c H locs 0 0 Q (F0 m (pc + 3) ls (.ref (ad 4) :: rest))) : W p l e R s m args below meth c H locs 0 0 Q (F0 m pc ls (.ref (ad 0) :: rest)) := va_get (D := D) (ci := 0) (v := .ref (ad 4)) (C := RX0) (T := TX0) (N := 7) hC.1 hC.2.1 hC.2.2.2.2.1 in_X0 hC.2.2.2.1 hC.2.2.2.2.2.1 hG.1 0 rfl rfl 4 (by decide) (hC.2.2.2.2.1 _ q60) (fun _ h9 => h9) rfl hdg k
theorem g_f_po (hC : xC p s m c cc nL RX0 args A D (gt ca)) (hG : xS D (gw ad ca) A s g0 H locs) (hdg : decode cc pc = .ok (.getfield 24, 3)) (k : W p l e R s m args below meth c H locs 0 0 Q (F0 m (pc + 3) ls (.ref (ad 5) :: rest))) : W p l e R s m args below meth c H locs 0 0 Q (F0 m pc ls (.ref (ad 0) :: rest)) := va_get (D := D) (ci := 0) (v := .ref (ad 5)) (C := RX0) (T := TX0) (N := 7) hC.1 hC.2.1 hC.2.2.2.2.1 in_X0 hC.2.2.2.1 hC.2.2.2.2.2.1 hG.1 0 rfl rfl 5 (by decide) (hC.2.2.2.2.1 _ q61) (fun _ h9 => h9) rfl hdg k
theorem g_f_pa (hC : xC p s m c cc nL RX0 args A D (gt ca)) (hG : xS D (gw ad ca) A s g0 H locs) (hdg : decode cc pc = .ok (.getfield 27, 3)) (k : W p l e R s m args below meth c H locs 0 0 Q (F0 m (pc + 3) ls (.ref (ad 6) :: rest))) : W p l e R s m args below meth c H locs 0 0 Q (F0 m pc ls (.ref (ad 0) :: rest)) := va_get (D := D) (ci := 0) (v := .ref (ad 6)) (C := RX0) (T := TX0) (N := 7) hC.1 hC.2.1 hC.2.2.2.2.1 in_X0 hC.2.2.2.1 hC.2.2.2.2.2.1 hG.1 0 rfl rfl 6 (by decide) (hC.2.2.2.2.1 _ q62) (fun _ h9 => h9) rfl hdg k
theorem g_l_ar (hi : i < 80) (hC : xC p s m c cc nL RX0 args A D (gt ca)) (hG : xS D (gw ad ca) A s (ar, us, sv, d, p0, p1, h0, h1, w0, w1) H locs) (hdg : decode cc pc = .ok (.baload, 1)) (k : W p l e R s m args below meth c H locs 0 0 Q (F0 m (pc + 1) ls (.int (nI (ar i)) :: rest))) : W p l e R s m args below meth c H locs 0 0 Q (F0 m pc ls (.int (nI i) :: .ref (ad 1) :: rest)) := va_zald (f := nF ar) hC.1 hC.2.1 hC.2.2.2.2.2.1 hG.1 1 0 rfl rfl (vp_in_nI hi (by decide)) hdg (by rw [nF_at _ (by omega)]; exact k)
theorem g_s_ar (hi : i < 80) (hv : v < 2) (hC : xC p s m c cc nL RX0 args A D (gt ca)) (hG : xS D (gw ad ca) A s (ar, us, sv, d, p0, p1, h0, h1, w0, w1) H locs) (hdg : decode cc pc = .ok (.bastore, 1)) (k : ∀ (H : Heap) (locs : List Loc), xS D (gw ad ca) A s (up ar i v, us, sv, d, p0, p1, h0, h1, w0, w1) H locs → W p l e R s m args below meth c H locs 0 0 Q (F0 m (pc + 1) ls (rest))) : W p l e R s m args below meth c H locs 0 0 Q (F0 m pc ls (.int (nI v) :: .int (nI i) :: .ref (ad 1) :: rest)) := by
  refine va_zast (f := nF ar) hC.1 hC.2.1 hC.2.2.2.2.2.1 hG.1 hG.2.1 hG.2.2 1 0 rfl rfl (vp_in_nI hi (by decide)) hdg (fun H locs hP hD hS => ?_)
  rw [nar_bool hv, nF_up _ _ (by omega)] at hP hD
  exact k H locs ⟨hP, hD, hS⟩
theorem g_l_us (hi : i < 80) (hC : xC p s m c cc nL RX0 args A D (gt ca)) (hG : xS D (gw ad ca) A s (ar, us, sv, d, p0, p1, h0, h1, w0, w1) H locs) (hdg : decode cc pc = .ok (.baload, 1)) (k : W p l e R s m args below meth c H locs 0 0 Q (F0 m (pc + 1) ls (.int (nI (us i)) :: rest))) : W p l e R s m args below meth c H locs 0 0 Q (F0 m pc ls (.int (nI i) :: .ref (ad 2) :: rest)) := va_bald (f := nF us) hC.1 hC.2.1 hC.2.2.2.2.2.1 hG.1 2 1 rfl rfl (vp_in_nI hi (by decide)) hdg (by rw [nF_at _ (by omega)]; exact k)
theorem g_s_us (hi : i < 80) (hv : v < 128) (hC : xC p s m c cc nL RX0 args A D (gt ca)) (hG : xS D (gw ad ca) A s (ar, us, sv, d, p0, p1, h0, h1, w0, w1) H locs) (hdg : decode cc pc = .ok (.bastore, 1)) (k : ∀ (H : Heap) (locs : List Loc), xS D (gw ad ca) A s (ar, up us i v, sv, d, p0, p1, h0, h1, w0, w1) H locs → W p l e R s m args below meth c H locs 0 0 Q (F0 m (pc + 1) ls (rest))) : W p l e R s m args below meth c H locs 0 0 Q (F0 m pc ls (.int (nI v) :: .int (nI i) :: .ref (ad 2) :: rest)) := by
  refine va_bast (f := nF us) hC.1 hC.2.1 hC.2.2.2.2.2.1 hG.1 hG.2.1 hG.2.2 2 1 rfl rfl (vp_in_nI hi (by decide)) hdg (fun H locs hP hD hS => ?_)
  rw [nar_byte hv, nF_up _ _ (by omega)] at hP hD
  exact k H locs ⟨hP, hD, hS⟩
theorem g_l_sv (hi : i < 41) (hC : xC p s m c cc nL RX0 args A D (gt ca)) (hG : xS D (gw ad ca) A s (ar, us, sv, d, p0, p1, h0, h1, w0, w1) H locs) (hdg : decode cc pc = .ok (.iaload, 1)) (k : W p l e R s m args below meth c H locs 0 0 Q (F0 m (pc + 1) ls (.int (nI (sv i)) :: rest))) : W p l e R s m args below meth c H locs 0 0 Q (F0 m pc ls (.int (nI i) :: .ref (ad 3) :: rest)) := va_iald (f := nF sv) hC.1 hC.2.1 hC.2.2.2.2.2.1 hG.1 3 2 rfl rfl (vp_in_nI hi (by decide)) hdg (by rw [nF_at _ (by omega)]; exact k)
theorem g_s_sv (hi : i < 41) (hC : xC p s m c cc nL RX0 args A D (gt ca)) (hG : xS D (gw ad ca) A s (ar, us, sv, d, p0, p1, h0, h1, w0, w1) H locs) (hdg : decode cc pc = .ok (.iastore, 1)) (k : ∀ (H : Heap) (locs : List Loc), xS D (gw ad ca) A s (ar, us, up sv i v, d, p0, p1, h0, h1, w0, w1) H locs → W p l e R s m args below meth c H locs 0 0 Q (F0 m (pc + 1) ls (rest))) : W p l e R s m args below meth c H locs 0 0 Q (F0 m pc ls (.int (nI v) :: .int (nI i) :: .ref (ad 3) :: rest)) := by
  refine va_iast (f := nF sv) hC.1 hC.2.1 hC.2.2.2.2.2.1 hG.1 hG.2.1 hG.2.2 3 2 rfl rfl (vp_in_nI hi (by decide)) hdg (fun H locs hP hD hS => ?_)
  rw [nF_up _ _ (by omega)] at hP hD
  exact k H locs ⟨hP, hD, hS⟩
theorem g_l_p0 (hC : xC p s m c cc nL RX0 args A D (gt ca)) (hG : xS D (gw ad ca) A s (ar, us, sv, d, p0, p1, h0, h1, w0, w1) H locs) (hdg : decode cc pc = .ok (.baload, 1)) (k : W p l e R s m args below meth c H locs 0 0 Q (F0 m (pc + 1) ls (.int (nI p0) :: rest))) : W p l e R s m args below meth c H locs 0 0 Q (F0 m pc ls (.int (nI 0) :: .ref (ad 4) :: rest)) := va_bald (f := tw p0 p1) hC.1 hC.2.1 hC.2.2.2.2.2.1 hG.1 4 3 rfl rfl (vp_in_nI (by decide) (by decide)) hdg (by rw [tw_0]; exact k)
theorem g_s_p0 (hv : v < 128) (hC : xC p s m c cc nL RX0 args A D (gt ca)) (hG : xS D (gw ad ca) A s (ar, us, sv, d, p0, p1, h0, h1, w0, w1) H locs) (hdg : decode cc pc = .ok (.bastore, 1)) (k : ∀ (H : Heap) (locs : List Loc), xS D (gw ad ca) A s (ar, us, sv, d, v, p1, h0, h1, w0, w1) H locs → W p l e R s m args below meth c H locs 0 0 Q (F0 m (pc + 1) ls (rest))) : W p l e R s m args below meth c H locs 0 0 Q (F0 m pc ls (.int (nI v) :: .int (nI 0) :: .ref (ad 4) :: rest)) := by
  refine va_bast (f := tw p0 p1) hC.1 hC.2.1 hC.2.2.2.2.2.1 hG.1 hG.2.1 hG.2.2 4 3 rfl rfl (vp_in_nI (by decide) (by decide)) hdg (fun H locs hP hD hS => ?_)
  rw [nar_byte hv, tw_u0] at hP hD
  exact k H locs ⟨hP, hD, hS⟩
theorem g_l_p1 (hC : xC p s m c cc nL RX0 args A D (gt ca)) (hG : xS D (gw ad ca) A s (ar, us, sv, d, p0, p1, h0, h1, w0, w1) H locs) (hdg : decode cc pc = .ok (.baload, 1)) (k : W p l e R s m args below meth c H locs 0 0 Q (F0 m (pc + 1) ls (.int (nI p1) :: rest))) : W p l e R s m args below meth c H locs 0 0 Q (F0 m pc ls (.int (nI 1) :: .ref (ad 4) :: rest)) := va_bald (f := tw p0 p1) hC.1 hC.2.1 hC.2.2.2.2.2.1 hG.1 4 3 rfl rfl (vp_in_nI (by decide) (by decide)) hdg (by rw [tw_1]; exact k)
theorem g_s_p1 (hv : v < 128) (hC : xC p s m c cc nL RX0 args A D (gt ca)) (hG : xS D (gw ad ca) A s (ar, us, sv, d, p0, p1, h0, h1, w0, w1) H locs) (hdg : decode cc pc = .ok (.bastore, 1)) (k : ∀ (H : Heap) (locs : List Loc), xS D (gw ad ca) A s (ar, us, sv, d, p0, v, h0, h1, w0, w1) H locs → W p l e R s m args below meth c H locs 0 0 Q (F0 m (pc + 1) ls (rest))) : W p l e R s m args below meth c H locs 0 0 Q (F0 m pc ls (.int (nI v) :: .int (nI 1) :: .ref (ad 4) :: rest)) := by
  refine va_bast (f := tw p0 p1) hC.1 hC.2.1 hC.2.2.2.2.2.1 hG.1 hG.2.1 hG.2.2 4 3 rfl rfl (vp_in_nI (by decide) (by decide)) hdg (fun H locs hP hD hS => ?_)
  rw [nar_byte hv, tw_u1] at hP hD
  exact k H locs ⟨hP, hD, hS⟩
theorem g_l_h0 (hC : xC p s m c cc nL RX0 args A D (gt ca)) (hG : xS D (gw ad ca) A s (ar, us, sv, d, p0, p1, h0, h1, w0, w1) H locs) (hdg : decode cc pc = .ok (.baload, 1)) (k : W p l e R s m args below meth c H locs 0 0 Q (F0 m (pc + 1) ls (.int (nI h0) :: rest))) : W p l e R s m args below meth c H locs 0 0 Q (F0 m pc ls (.int (nI 0) :: .ref (ad 5) :: rest)) := va_bald (f := tw h0 h1) hC.1 hC.2.1 hC.2.2.2.2.2.1 hG.1 5 4 rfl rfl (vp_in_nI (by decide) (by decide)) hdg (by rw [tw_0]; exact k)
theorem g_s_h0 (hv : v < 128) (hC : xC p s m c cc nL RX0 args A D (gt ca)) (hG : xS D (gw ad ca) A s (ar, us, sv, d, p0, p1, h0, h1, w0, w1) H locs) (hdg : decode cc pc = .ok (.bastore, 1)) (k : ∀ (H : Heap) (locs : List Loc), xS D (gw ad ca) A s (ar, us, sv, d, p0, p1, v, h1, w0, w1) H locs → W p l e R s m args below meth c H locs 0 0 Q (F0 m (pc + 1) ls (rest))) : W p l e R s m args below meth c H locs 0 0 Q (F0 m pc ls (.int (nI v) :: .int (nI 0) :: .ref (ad 5) :: rest)) := by
  refine va_bast (f := tw h0 h1) hC.1 hC.2.1 hC.2.2.2.2.2.1 hG.1 hG.2.1 hG.2.2 5 4 rfl rfl (vp_in_nI (by decide) (by decide)) hdg (fun H locs hP hD hS => ?_)
  rw [nar_byte hv, tw_u0] at hP hD
  exact k H locs ⟨hP, hD, hS⟩
theorem g_l_h1 (hC : xC p s m c cc nL RX0 args A D (gt ca)) (hG : xS D (gw ad ca) A s (ar, us, sv, d, p0, p1, h0, h1, w0, w1) H locs) (hdg : decode cc pc = .ok (.baload, 1)) (k : W p l e R s m args below meth c H locs 0 0 Q (F0 m (pc + 1) ls (.int (nI h1) :: rest))) : W p l e R s m args below meth c H locs 0 0 Q (F0 m pc ls (.int (nI 1) :: .ref (ad 5) :: rest)) := va_bald (f := tw h0 h1) hC.1 hC.2.1 hC.2.2.2.2.2.1 hG.1 5 4 rfl rfl (vp_in_nI (by decide) (by decide)) hdg (by rw [tw_1]; exact k)
theorem g_s_h1 (hv : v < 128) (hC : xC p s m c cc nL RX0 args A D (gt ca)) (hG : xS D (gw ad ca) A s (ar, us, sv, d, p0, p1, h0, h1, w0, w1) H locs) (hdg : decode cc pc = .ok (.bastore, 1)) (k : ∀ (H : Heap) (locs : List Loc), xS D (gw ad ca) A s (ar, us, sv, d, p0, p1, h0, v, w0, w1) H locs → W p l e R s m args below meth c H locs 0 0 Q (F0 m (pc + 1) ls (rest))) : W p l e R s m args below meth c H locs 0 0 Q (F0 m pc ls (.int (nI v) :: .int (nI 1) :: .ref (ad 5) :: rest)) := by
  refine va_bast (f := tw h0 h1) hC.1 hC.2.1 hC.2.2.2.2.2.1 hG.1 hG.2.1 hG.2.2 5 4 rfl rfl (vp_in_nI (by decide) (by decide)) hdg (fun H locs hP hD hS => ?_)
  rw [nar_byte hv, tw_u1] at hP hD
  exact k H locs ⟨hP, hD, hS⟩
theorem g_l_w0 (hC : xC p s m c cc nL RX0 args A D (gt ca)) (hG : xS D (gw ad ca) A s (ar, us, sv, d, p0, p1, h0, h1, w0, w1) H locs) (hdg : decode cc pc = .ok (.baload, 1)) (k : W p l e R s m args below meth c H locs 0 0 Q (F0 m (pc + 1) ls (.int (nI w0) :: rest))) : W p l e R s m args below meth c H locs 0 0 Q (F0 m pc ls (.int (nI 0) :: .ref (ad 6) :: rest)) := va_bald (f := tw w0 w1) hC.1 hC.2.1 hC.2.2.2.2.2.1 hG.1 6 5 rfl rfl (vp_in_nI (by decide) (by decide)) hdg (by rw [tw_0]; exact k)
theorem g_s_w0 (hv : v < 128) (hC : xC p s m c cc nL RX0 args A D (gt ca)) (hG : xS D (gw ad ca) A s (ar, us, sv, d, p0, p1, h0, h1, w0, w1) H locs) (hdg : decode cc pc = .ok (.bastore, 1)) (k : ∀ (H : Heap) (locs : List Loc), xS D (gw ad ca) A s (ar, us, sv, d, p0, p1, h0, h1, v, w1) H locs → W p l e R s m args below meth c H locs 0 0 Q (F0 m (pc + 1) ls (rest))) : W p l e R s m args below meth c H locs 0 0 Q (F0 m pc ls (.int (nI v) :: .int (nI 0) :: .ref (ad 6) :: rest)) := by
  refine va_bast (f := tw w0 w1) hC.1 hC.2.1 hC.2.2.2.2.2.1 hG.1 hG.2.1 hG.2.2 6 5 rfl rfl (vp_in_nI (by decide) (by decide)) hdg (fun H locs hP hD hS => ?_)
  rw [nar_byte hv, tw_u0] at hP hD
  exact k H locs ⟨hP, hD, hS⟩
theorem g_l_w1 (hC : xC p s m c cc nL RX0 args A D (gt ca)) (hG : xS D (gw ad ca) A s (ar, us, sv, d, p0, p1, h0, h1, w0, w1) H locs) (hdg : decode cc pc = .ok (.baload, 1)) (k : W p l e R s m args below meth c H locs 0 0 Q (F0 m (pc + 1) ls (.int (nI w1) :: rest))) : W p l e R s m args below meth c H locs 0 0 Q (F0 m pc ls (.int (nI 1) :: .ref (ad 6) :: rest)) := va_bald (f := tw w0 w1) hC.1 hC.2.1 hC.2.2.2.2.2.1 hG.1 6 5 rfl rfl (vp_in_nI (by decide) (by decide)) hdg (by rw [tw_1]; exact k)
theorem g_s_w1 (hv : v < 128) (hC : xC p s m c cc nL RX0 args A D (gt ca)) (hG : xS D (gw ad ca) A s (ar, us, sv, d, p0, p1, h0, h1, w0, w1) H locs) (hdg : decode cc pc = .ok (.bastore, 1)) (k : ∀ (H : Heap) (locs : List Loc), xS D (gw ad ca) A s (ar, us, sv, d, p0, p1, h0, h1, w0, v) H locs → W p l e R s m args below meth c H locs 0 0 Q (F0 m (pc + 1) ls (rest))) : W p l e R s m args below meth c H locs 0 0 Q (F0 m pc ls (.int (nI v) :: .int (nI 1) :: .ref (ad 6) :: rest)) := by
  refine va_bast (f := tw w0 w1) hC.1 hC.2.1 hC.2.2.2.2.2.1 hG.1 hG.2.1 hG.2.2 6 5 rfl rfl (vp_in_nI (by decide) (by decide)) hdg (fun H locs hP hD hS => ?_)
  rw [nar_byte hv, tw_u1] at hP hD
  exact k H locs ⟨hP, hD, hS⟩
theorem k_f_mv (hC : xC p s m c cc nL RX1 args A D (mt ca)) (hG : xS D (mw ad ca) A s g1 H locs) (hdg : decode cc pc = .ok (.getfield 7, 3)) (k : W p l e R s m args below meth c H locs 0 0 Q (F0 m (pc + 3) ls (.ref (ad 1) :: rest))) : W p l e R s m args below meth c H locs 0 0 Q (F0 m pc ls (.ref (ad 0) :: rest)) := va_get (D := D) (ci := 1) (v := .ref (ad 1)) (C := RX1) (T := TX1) (N := 6) hC.1 hC.2.1 hC.2.2.2.2.1 in_X1 hC.2.2.2.1 hC.2.2.2.2.2.1 hG.1 0 rfl rfl 0 (by decide) (hC.2.2.2.2.1 _ q158) (fun _ h9 => h9) rfl hdg k
theorem k_f_d (hC : xC p s m c cc nL RX1 args A D (mt ca)) (hG : xS D (mw ad ca) A s (mv, bf, d, p0, p1, h0, h1, w0, w1) H locs) (hdg : decode cc pc = .ok (.getfield 52, 3)) (k : W p l e R s m args below meth c H locs 0 0 Q (F0 m (pc + 3) ls (.int (nI d) :: rest))) : W p l e R s m args below meth c H locs 0 0 Q (F0 m pc ls (.ref (ad 0) :: rest)) := va_get (D := D) (ci := 1) (v := .int (nI d)) (C := RX1) (T := TX1) (N := 6) hC.1 hC.2.1 hC.2.2.2.2.1 in_X1 hC.2.2.2.1 hC.2.2.2.2.2.1 hG.1 0 rfl rfl 1 (by decide) (hC.2.2.2.2.1 _ q159) (fun _ h9 => h9) rfl hdg k
theorem k_p_d (hC : xC p s m c cc nL RX1 args A D (mt ca)) (hG : xS D (mw ad ca) A s (mv, bf, d, p0, p1, h0, h1, w0, w1) H locs) (hdg : decode cc pc = .ok (.putfield 52, 3)) (k : ∀ (H : Heap) (locs : List Loc), xS D (mw ad ca) A s (mv, bf, v, p0, p1, h0, h1, w0, w1) H locs → W p l e R s m args below meth c H locs 0 0 Q (F0 m (pc + 3) ls (rest))) : W p l e R s m args below meth c H locs 0 0 Q (F0 m pc ls (.int (nI v) :: .ref (ad 0) :: rest)) := by
  refine va_put (D := D) (ci := 1) (v := .int (nI v)) (ty := .int) (C := RX1) (T := TX1) (N := 6) hC.1 hC.2.1 hC.2.2.2.2.1 in_X1 tyX1 tyX1_ok nmX1 hC.2.2.2.1 hC.2.2.2.2.2.1 hG.1 hG.2.1 hG.2.2 0 rfl rfl 1 (by decide) (hC.2.2.2.2.1 _ q159) (fun _ h9 => h9) rfl (by decide +kernel) rfl rfl (Nat.le_of_ble_eq_true rfl) hdg (fun H locs hP hD hS => ?_)
  exact k H locs ⟨hP, hD, hS⟩
theorem k_f_pl (hC : xC p s m c cc nL RX1 args A D (mt ca)) (hG : xS D (mw ad ca) A s g1 H locs) (hdg : decode cc pc = .ok (.getfield 13, 3)) (k : W p l e R s m args below meth c H locs 0 0 Q (F0 m (pc + 3) ls (.ref (ad 2) :: rest))) : W p l e R s m args below meth c H locs 0 0 Q (F0 m pc ls (.ref (ad 0) :: rest)) := va_get (D := D) (ci := 1) (v := .ref (ad 2)) (C := RX1) (T := TX1) (N := 6) hC.1 hC.2.1 hC.2.2.2.2.1 in_X1 hC.2.2.2.1 hC.2.2.2.2.2.1 hG.1 0 rfl rfl 2 (by decide) (hC.2.2.2.2.1 _ q160) (fun _ h9 => h9) rfl hdg k
theorem k_f_po (hC : xC p s m c cc nL RX1 args A D (mt ca)) (hG : xS D (mw ad ca) A s g1 H locs) (hdg : decode cc pc = .ok (.getfield 16, 3)) (k : W p l e R s m args below meth c H locs 0 0 Q (F0 m (pc + 3) ls (.ref (ad 3) :: rest))) : W p l e R s m args below meth c H locs 0 0 Q (F0 m pc ls (.ref (ad 0) :: rest)) := va_get (D := D) (ci := 1) (v := .ref (ad 3)) (C := RX1) (T := TX1) (N := 6) hC.1 hC.2.1 hC.2.2.2.2.1 in_X1 hC.2.2.2.1 hC.2.2.2.2.2.1 hG.1 0 rfl rfl 3 (by decide) (hC.2.2.2.2.1 _ q161) (fun _ h9 => h9) rfl hdg k
theorem k_f_pa (hC : xC p s m c cc nL RX1 args A D (mt ca)) (hG : xS D (mw ad ca) A s g1 H locs) (hdg : decode cc pc = .ok (.getfield 19, 3)) (k : W p l e R s m args below meth c H locs 0 0 Q (F0 m (pc + 3) ls (.ref (ad 4) :: rest))) : W p l e R s m args below meth c H locs 0 0 Q (F0 m pc ls (.ref (ad 0) :: rest)) := va_get (D := D) (ci := 1) (v := .ref (ad 4)) (C := RX1) (T := TX1) (N := 6) hC.1 hC.2.1 hC.2.2.2.2.1 in_X1 hC.2.2.2.1 hC.2.2.2.2.2.1 hG.1 0 rfl rfl 4 (by decide) (hC.2.2.2.2.1 _ q162) (fun _ h9 => h9) rfl hdg k
theorem k_f_bf (hC : xC p s m c cc nL RX1 args A D (mt ca)) (hG : xS D (mw ad ca) A s g1 H locs) (hdg : decode cc pc = .ok (.getfield 22, 3)) (k : W p l e R s m args below meth c H locs 0 0 Q (F0 m (pc + 3) ls (.ref (ad 5) :: rest))) : W p l e R s m args below meth c H locs 0 0 Q (F0 m pc ls (.ref (ad 0) :: rest)) := va_get (D := D) (ci := 1) (v := .ref (ad 5)) (C := RX1) (T := TX1) (N := 6) hC.1 hC.2.1 hC.2.2.2.2.1 in_X1 hC.2.2.2.1 hC.2.2.2.2.2.1 hG.1 0 rfl rfl 5 (by decide) (hC.2.2.2.2.1 _ q163) (fun _ h9 => h9) rfl hdg k
theorem k_l_mv (hi : i < 80) (hC : xC p s m c cc nL RX1 args A D (mt ca)) (hG : xS D (mw ad ca) A s (mv, bf, d, p0, p1, h0, h1, w0, w1) H locs) (hdg : decode cc pc = .ok (.iaload, 1)) (k : W p l e R s m args below meth c H locs 0 0 Q (F0 m (pc + 1) ls (.int (nI (mv i)) :: rest))) : W p l e R s m args below meth c H locs 0 0 Q (F0 m pc ls (.int (nI i) :: .ref (ad 1) :: rest)) := va_iald (f := nF mv) hC.1 hC.2.1 hC.2.2.2.2.2.1 hG.1 1 0 rfl rfl (vp_in_nI hi (by decide)) hdg (by rw [nF_at _ (by omega)]; exact k)
theorem k_s_mv (hi : i < 80) (hC : xC p s m c cc nL RX1 args A D (mt ca)) (hG : xS D (mw ad ca) A s (mv, bf, d, p0, p1, h0, h1, w0, w1) H locs) (hdg : decode cc pc = .ok (.iastore, 1)) (k : ∀ (H : Heap) (locs : List Loc), xS D (mw ad ca) A s (up mv i v, bf, d, p0, p1, h0, h1, w0, w1) H locs → W p l e R s m args below meth c H locs 0 0 Q (F0 m (pc + 1) ls (rest))) : W p l e R s m args below meth c H locs 0 0 Q (F0 m pc ls (.int (nI v) :: .int (nI i) :: .ref (ad 1) :: rest)) := by
  refine va_iast (f := nF mv) hC.1 hC.2.1 hC.2.2.2.2.2.1 hG.1 hG.2.1 hG.2.2 1 0 rfl rfl (vp_in_nI hi (by decide)) hdg (fun H locs hP hD hS => ?_)
  rw [nF_up _ _ (by omega)] at hP hD
  exact k H locs ⟨hP, hD, hS⟩
theorem k_l_bf (hi : i < 41) (hC : xC p s m c cc nL RX1 args A D (mt ca)) (hG : xS D (mw ad ca) A s (mv, bf, d, p0, p1, h0, h1, w0, w1) H locs) (hdg : decode cc pc = .ok (.iaload, 1)) (k : W p l e R s m args below meth c H locs 0 0 Q (F0 m (pc + 1) ls (.int (nI (bf i)) :: rest))) : W p l e R s m args below meth c H locs 0 0 Q (F0 m pc ls (.int (nI i) :: .ref (ad 5) :: rest)) := va_iald (f := nF bf) hC.1 hC.2.1 hC.2.2.2.2.2.1 hG.1 5 4 rfl rfl (vp_in_nI hi (by decide)) hdg (by rw [nF_at _ (by omega)]; exact k)
theorem k_s_bf (hi : i < 41) (hC : xC p s m c cc nL RX1 args A D (mt ca)) (hG : xS D (mw ad ca) A s (mv, bf, d, p0, p1, h0, h1, w0, w1) H locs) (hdg : decode cc pc = .ok (.iastore, 1)) (k : ∀ (H : Heap) (locs : List Loc), xS D (mw ad ca) A s (mv, up bf i v, d, p0, p1, h0, h1, w0, w1) H locs → W p l e R s m args below meth c H locs 0 0 Q (F0 m (pc + 1) ls (rest))) : W p l e R s m args below meth c H locs 0 0 Q (F0 m pc ls (.int (nI v) :: .int (nI i) :: .ref (ad 5) :: rest)) := by
  refine va_iast (f := nF bf) hC.1 hC.2.1 hC.2.2.2.2.2.1 hG.1 hG.2.1 hG.2.2 5 4 rfl rfl (vp_in_nI hi (by decide)) hdg (fun H locs hP hD hS => ?_)
  rw [nF_up _ _ (by omega)] at hP hD
  exact k H locs ⟨hP, hD, hS⟩
theorem k_l_p0 (hC : xC p s m c cc nL RX1 args A D (mt ca)) (hG : xS D (mw ad ca) A s (mv, bf, d, p0, p1, h0, h1, w0, w1) H locs) (hdg : decode cc pc = .ok (.iaload, 1)) (k : W p l e R s m args below meth c H locs 0 0 Q (F0 m (pc + 1) ls (.int (nI p0) :: rest))) : W p l e R s m args below meth c H locs 0 0 Q (F0 m pc ls (.int (nI 0) :: .ref (ad 2) :: rest)) := va_iald (f := tw p0 p1) hC.1 hC.2.1 hC.2.2.2.2.2.1 hG.1 2 1 rfl rfl (vp_in_nI (by decide) (by decide)) hdg (by rw [tw_0]; exact k)
theorem k_s_p0 (hC : xC p s m c cc nL RX1 args A D (mt ca)) (hG : xS D (mw ad ca) A s (mv, bf, d, p0, p1, h0, h1, w0, w1) H locs) (hdg : decode cc pc = .ok (.iastore, 1)) (k : ∀ (H : Heap) (locs : List Loc), xS D (mw ad ca) A s (mv, bf, d, v, p1, h0, h1, w0, w1) H locs → W p l e R s m args below meth c H locs 0 0 Q (F0 m (pc + 1) ls (rest))) : W p l e R s m args below meth c H locs 0 0 Q (F0 m pc ls (.int (nI v) :: .int (nI 0) :: .ref (ad 2) :: rest)) := by
  refine va_iast (f := tw p0 p1) hC.1 hC.2.1 hC.2.2.2.2.2.1 hG.1 hG.2.1 hG.2.2 2 1 rfl rfl (vp_in_nI (by decide) (by decide)) hdg (fun H locs hP hD hS => ?_)
  rw [tw_u0] at hP hD
  exact k H locs ⟨hP, hD, hS⟩
theorem k_l_p1 (hC : xC p s m c cc nL RX1 args A D (mt ca)) (hG : xS D (mw ad ca) A s (mv, bf, d, p0, p1, h0, h1, w0, w1) H locs) (hdg : decode cc pc = .ok (.iaload, 1)) (k : W p l e R s m args below meth c H locs 0 0 Q (F0 m (pc + 1) ls (.int (nI p1) :: rest))) : W p l e R s m args below meth c H locs 0 0 Q (F0 m pc ls (.int (nI 1) :: .ref (ad 2) :: rest)) := va_iald (f := tw p0 p1) hC.1 hC.2.1 hC.2.2.2.2.2.1 hG.1 2 1 rfl rfl (vp_in_nI (by decide) (by decide)) hdg (by rw [tw_1]; exact k)
theorem k_s_p1 (hC : xC p s m c cc nL RX1 args A D (mt ca)) (hG : xS D (mw ad ca) A s (mv, bf, d, p0, p1, h0, h1, w0, w1) H locs) (hdg : decode cc pc = .ok (.iastore, 1)) (k : ∀ (H : Heap) (locs : List Loc), xS D (mw ad ca) A s (mv, bf, d, p0, v, h0, h1, w0, w1) H locs → W p l e R s m args below meth c H locs 0 0 Q (F0 m (pc + 1) ls (rest))) : W p l e R s m args below meth c H locs 0 0 Q (F0 m pc ls (.int (nI v) :: .int (nI 1) :: .ref (ad 2) :: rest)) := by
  refine va_iast (f := tw p0 p1) hC.1 hC.2.1 hC.2.2.2.2.2.1 hG.1 hG.2.1 hG.2.2 2 1 rfl rfl (vp_in_nI (by decide) (by decide)) hdg (fun H locs hP hD hS => ?_)
  rw [tw_u1] at hP hD
  exact k H locs ⟨hP, hD, hS⟩
theorem k_l_h0 (hC : xC p s m c cc nL RX1 args A D (mt ca)) (hG : xS D (mw ad ca) A s (mv, bf, d, p0, p1, h0, h1, w0, w1) H locs) (hdg : decode cc pc = .ok (.iaload, 1)) (k : W p l e R s m args below meth c H locs 0 0 Q (F0 m (pc + 1) ls (.int (nI h0) :: rest))) : W p l e R s m args below meth c H locs 0 0 Q (F0 m pc ls (.int (nI 0) :: .ref (ad 3) :: rest)) := va_iald (f := tw h0 h1) hC.1 hC.2.1 hC.2.2.2.2.2.1 hG.1 3 2 rfl rfl (vp_in_nI (by decide) (by decide)) hdg (by rw [tw_0]; exact k)
theorem k_s_h0 (hC : xC p s m c cc nL RX1 args A D (mt ca)) (hG : xS D (mw ad ca) A s (mv, bf, d, p0, p1, h0, h1, w0, w1) H locs) (hdg : decode cc pc = .ok (.iastore, 1)) (k : ∀ (H : Heap) (locs : List Loc), xS D (mw ad ca) A s (mv, bf, d, p0, p1, v, h1, w0, w1) H locs → W p l e R s m args below meth c H locs 0 0 Q (F0 m (pc + 1) ls (rest))) : W p l e R s m args below meth c H locs 0 0 Q (F0 m pc ls (.int (nI v) :: .int (nI 0) :: .ref (ad 3) :: rest)) := by
  refine va_iast (f := tw h0 h1) hC.1 hC.2.1 hC.2.2.2.2.2.1 hG.1 hG.2.1 hG.2.2 3 2 rfl rfl (vp_in_nI (by decide) (by decide)) hdg (fun H locs hP hD hS => ?_)
  rw [tw_u0] at hP hD
  exact k H locs ⟨hP, hD, hS⟩
theorem k_l_h1 (hC : xC p s m c cc nL RX1 args A D (mt ca)) (hG : xS D (mw ad ca) A s (mv, bf, d, p0, p1, h0, h1, w0, w1) H locs) (hdg : decode cc pc = .ok (.iaload, 1)) (k : W p l e R s m args below meth c H locs 0 0 Q (F0 m (pc + 1) ls (.int (nI h1) :: rest))) : W p l e R s m args below meth c H locs 0 0 Q (F0 m pc ls (.int (nI 1) :: .ref (ad 3) :: rest)) := va_iald (f := tw h0 h1) hC.1 hC.2.1 hC.2.2.2.2.2.1 hG.1 3 2 rfl rfl (vp_in_nI (by decide) (by decide)) hdg (by rw [tw_1]; exact k)
theorem k_s_h1 (hC : xC p s m c cc nL RX1 args A D (mt ca)) (hG : xS D (mw ad ca) A s (mv, bf, d, p0, p1, h0, h1, w0, w1) H locs) (hdg : decode cc pc = .ok (.iastore, 1)) (k : ∀ (H : Heap) (locs : List Loc), xS D (mw ad ca) A s (mv, bf, d, p0, p1, h0, v, w0, w1) H locs → W p l e R s m args below meth c H locs 0 0 Q (F0 m (pc + 1) ls (rest))) : W p l e R s m args below meth c H locs 0 0 Q (F0 m pc ls (.int (nI v) :: .int (nI 1) :: .ref (ad 3) :: rest)) := by
  refine va_iast (f := tw h0 h1) hC.1 hC.2.1 hC.2.2.2.2.2.1 hG.1 hG.2.1 hG.2.2 3 2 rfl rfl (vp_in_nI (by decide) (by decide)) hdg (fun H locs hP hD hS => ?_)
  rw [tw_u1] at hP hD
  exact k H locs ⟨hP, hD, hS⟩
theorem k_l_w0 (hC : xC p s m c cc nL RX1 args A D (mt ca)) (hG : xS D (mw ad ca) A s (mv, bf, d, p0, p1, h0, h1, w0, w1) H locs) (hdg : decode cc pc = .ok (.iaload, 1)) (k : W p l e R s m args below meth c H locs 0 0 Q (F0 m (pc + 1) ls (.int (nI w0) :: rest))) : W p l e R s m args below meth c H locs 0 0 Q (F0 m pc ls (.int (nI 0) :: .ref (ad 4) :: rest)) := va_iald (f := tw w0 w1) hC.1 hC.2.1 hC.2.2.2.2.2.1 hG.1 4 3 rfl rfl (vp_in_nI (by decide) (by decide)) hdg (by rw [tw_0]; exact k)
theorem k_s_w0 (hC : xC p s m c cc nL RX1 args A D (mt ca)) (hG : xS D (mw ad ca) A s (mv, bf, d, p0, p1, h0, h1, w0, w1) H locs) (hdg : decode cc pc = .ok (.iastore, 1)) (k : ∀ (H : Heap) (locs : List Loc), xS D (mw ad ca) A s (mv, bf, d, p0, p1, h0, h1, v, w1) H locs → W p l e R s m args below meth c H locs 0 0 Q (F0 m (pc + 1) ls (rest))) : W p l e R s m args below meth c H locs 0 0 Q (F0 m pc ls (.int (nI v) :: .int (nI 0) :: .ref (ad 4) :: rest)) := by
  refine va_iast (f := tw w0 w1) hC.1 hC.2.1 hC.2.2.2.2.2.1 hG.1 hG.2.1 hG.2.2 4 3 rfl rfl (vp_in_nI (by decide) (by decide)) hdg (fun H locs hP hD hS => ?_)
  rw [tw_u0] at hP hD
  exact k H locs ⟨hP, hD, hS⟩
theorem k_l_w1 (hC : xC p s m c cc nL RX1 args A D (mt ca)) (hG : xS D (mw ad ca) A s (mv, bf, d, p0, p1, h0, h1, w0, w1) H locs) (hdg : decode cc pc = .ok (.iaload, 1)) (k : W p l e R s m args below meth c H locs 0 0 Q (F0 m (pc + 1) ls (.int (nI w1) :: rest))) : W p l e R s m args below meth c H locs 0 0 Q (F0 m pc ls (.int (nI 1) :: .ref (ad 4) :: rest)) := va_iald (f := tw w0 w1) hC.1 hC.2.1 hC.2.2.2.2.2.1 hG.1 4 3 rfl rfl (vp_in_nI (by decide) (by decide)) hdg (by rw [tw_1]; exact k)
theorem k_s_w1 (hC : xC p s m c cc nL RX1 args A D (mt ca)) (hG : xS D (mw ad ca) A s (mv, bf, d, p0, p1, h0, h1, w0, w1) H locs) (hdg : decode cc pc = .ok (.iastore, 1)) (k : ∀ (H : Heap) (locs : List Loc), xS D (mw ad ca) A s (mv, bf, d, p0, p1, h0, h1, w0, v) H locs → W p l e R s m args below meth c H locs 0 0 Q (F0 m (pc + 1) ls (rest))) : W p l e R s m args below meth c H locs 0 0 Q (F0 m pc ls (.int (nI v) :: .int (nI 1) :: .ref (ad 4) :: rest)) := by
  refine va_iast (f := tw w0 w1) hC.1 hC.2.1 hC.2.2.2.2.2.1 hG.1 hG.2.1 hG.2.2 4 3 rfl rfl (vp_in_nI (by decide) (by decide)) hdg (fun H locs hP hD hS => ?_)
  rw [tw_u1] at hP hD
  exact k H locs ⟨hP, hD, hS⟩
end WR
end
section
/-! THE SPEC, in plain numbers -/
def inB (n : Nat) (x : Int32) : Prop := ∃ j : Nat, j < n ∧ x = nI j
theorem inB_mk {x : Int32} {n : Nat} (hn : n < 2147483648) (h0 : ¬ x < 0) (h1 : ¬ nI n ≤ x) : inB n x := by
  rcases pk_ix x (n := n) (by omega) with h | h | h
  · exact absurd h h0
  · exact absurd h h1
  · exact h
theorem inB_neg {x : Int32} {n : Nat} (hn : n < 2147483648) (h : x < 0) : ¬ inB n x := by
  rintro ⟨j, hj, rfl⟩
  exact nI_pos (by omega) h
theorem inB_big {x : Int32} {n : Nat} (hn : n < 2147483648) (h : nI n ≤ x) : ¬ inB n x := by
  rintro ⟨j, hj, rfl⟩
  exact nI_ge hj (by omega) h
theorem inB_mk' {x : Int32} {n : Nat} (hn : n + 1 < 2147483648) (h0 : ¬ x < 0) (h1 : x ≤ nI n) : inB (n + 1) x := by
  obtain ⟨j, hj, rfl⟩ := nI_of h0
  rw [nI_leI (by omega) (by omega)] at h1
  exact ⟨j, by omega, rfl⟩
theorem inB_big' {x : Int32} {n : Nat} (hn : n + 1 < 2147483648) (h1 : ¬ x ≤ nI n) : ¬ inB (n + 1) x := by
  rintro ⟨j, hj, rfl⟩
  rw [nI_leI (by omega) (by omega)] at h1
  omega
theorem inB2_0 {x : Int32} (h : x = 0) : inB 2 x := ⟨0, by decide, h⟩
theorem inB2_1 {x : Int32} (h : x = nI 1) : inB 2 x := ⟨1, by decide, h⟩
theorem inB2_n {x : Int32} (h0 : ¬ x = 0) (h1 : ¬ x = nI 1) : ¬ inB 2 x := by
  rintro ⟨j, hj, rfl⟩
  rcases (show j = 0 ∨ j = 1 by omega) with rfl | rfl
  · exact h0 rfl
  · exact h1 rfl
theorem inc1 (a : Nat) : nI a + Int32.ofInt 1 = nI (a + 1) := nI_1 a
theorem dec1 {a : Nat} (h : 0 < a) : nI a + Int32.ofInt (-1) = nI (a - 1) := sb_m1 h
/-- a move as the machine has it, and the move that it acts as -/
def actsAs (x : Int32) (mv : Nat) : Prop := (x = nI 1 ↔ mv = 1) ∧ (x = nI 2 ↔ mv = 2) ∧ (x = nI 3 ↔ mv = 3)
theorem acts_nI {mv : Nat} (h : mv < 2147483648) : actsAs (nI mv) mv := ⟨nI_eq (by omega) (by decide), nI_eq (by omega) (by decide), nI_eq (by omega) (by decide)⟩
theorem acts_m1 : actsAs (-1) 0 := ⟨by decide, by decide, by decide⟩
def gTo (me mv : Nat) : Nat := if mv = 1 ∧ 0 < me then me - 1 else if mv = 2 ∧ me < 9 then me + 1 else me
def gGo (me ot mv : Nat) : Nat := if gTo me mv = ot then me else gTo me mv
def gNear (a b : Nat) : Nat := if a ≤ b + 1 ∧ b ≤ a + 1 then 1 else 0
def gHit (n h mv : Nat) : Nat := if mv = 3 ∧ n ≠ 0 then h - 1 else h
def gPau (w mv : Nat) : Nat := if mv = 3 then 2 else w
def gEff (w mv : Nat) : Nat := if w = 0 then mv else 0
def fStep (x : Fi) (m0 m1 : Nat) : Fi :=
  (gGo x.1 x.2.1 (gEff x.2.2.2.2.1 m0), gGo x.2.1 (gGo x.1 x.2.1 (gEff x.2.2.2.2.1 m0)) (gEff x.2.2.2.2.2 m1),
   gHit (gNear (gGo x.1 x.2.1 (gEff x.2.2.2.2.1 m0)) (gGo x.2.1 (gGo x.1 x.2.1 (gEff x.2.2.2.2.1 m0)) (gEff x.2.2.2.2.2 m1))) x.2.2.1 (gEff x.2.2.2.2.2 m1),
   gHit (gNear (gGo x.1 x.2.1 (gEff x.2.2.2.2.1 m0)) (gGo x.2.1 (gGo x.1 x.2.1 (gEff x.2.2.2.2.1 m0)) (gEff x.2.2.2.2.2 m1))) x.2.2.2.1 (gEff x.2.2.2.2.1 m0),
   gPau (x.2.2.2.2.1 - 1) (gEff x.2.2.2.2.1 m0), gPau (x.2.2.2.2.2 - 1) (gEff x.2.2.2.2.2 m1))
def fNext (x : Fi) (m0 m1 : Nat) : Fi := if x.2.2.1 = 0 ∨ x.2.2.2.1 = 0 then x else fStep x m0 m1
def fOk (x : Fi) : Prop := x.1 ≤ 9 ∧ x.2.1 ≤ 9 ∧ x.2.2.1 ≤ 9 ∧ x.2.2.2.1 ≤ 9 ∧ x.2.2.2.2.1 ≤ 9 ∧ x.2.2.2.2.2 ≤ 9
def pic (x : Fi) : Nat := x.1 + 10 * x.2.1 + 100 * x.2.2.1 + 1000 * x.2.2.2.1 + 10000 * x.2.2.2.2.1 + 100000 * x.2.2.2.2.2
theorem gTo_le {me mv : Nat} (h : me ≤ 9) : gTo me mv ≤ 9 := by
  unfold gTo; split
  · omega
  · split <;> omega
theorem gGo_le {me ot mv : Nat} (h : me ≤ 9) : gGo me ot mv ≤ 9 := by
  have := gTo_le (mv := mv) h
  unfold gGo; split <;> omega
theorem gHit_le {n h mv : Nat} (hh : h ≤ 9) : gHit n h mv ≤ 9 := by
  unfold gHit; split <;> omega
theorem gPau_le {w mv : Nat} (hh : w ≤ 9) : gPau w mv ≤ 9 := by
  unfold gPau; split <;> omega
theorem gNear_lt (a b : Nat) : gNear a b < 2 := by
  unfold gNear; split <;> omega
theorem fStep_ok {x : Fi} {m0 m1 : Nat} (h : fOk x) : fOk (fStep x m0 m1) := by
  obtain ⟨a, b, c, d, e, f⟩ := h
  exact ⟨gGo_le a, gGo_le b, gHit_le c, gHit_le d, gPau_le (by omega), gPau_le (by omega)⟩
theorem fNext_ok {x : Fi} {m0 m1 : Nat} (h : fOk x) : fOk (fNext x m0 m1) := by
  unfold fNext; split
  · exact h
  · exact fStep_ok h
theorem pic_lt {x : Fi} (h : fOk x) : pic x < 1000000 := by
  obtain ⟨a, b, c, d, e, f⟩ := h
  unfold pic; omega
theorem pic_inj {x y : Fi} (hx : fOk x) (hy : fOk y) (h : pic x = pic y) : x = y := by
  obtain ⟨x1, x2, x3, x4, x5, x6⟩ := x
  obtain ⟨y1, y2, y3, y4, y5, y6⟩ := y
  unfold pic at h
  unfold fOk at hx hy
  simp only [] at h hx hy
  have e1 : x1 = y1 := by omega
  have e2 : x2 = y2 := by omega
  have e3 : x3 = y3 := by omega
  have e4 : x4 = y4 := by omega
  have e5 : x5 = y5 := by omega
  have e6 : x6 = y6 := by omega
  rw [e1, e2, e3, e4, e5, e6]
theorem pic_0 {p0 p1 h0 h1 w0 w1 : Nat} (h : fOk (p0, p1, h0, h1, w0, w1)) : pic (p0, p1, h0, h1, w0, w1) % 10 = p0 := by
  unfold fOk at h; unfold pic; simp only [] at h ⊢; omega
theorem pic_1 {p0 p1 h0 h1 w0 w1 : Nat} (h : fOk (p0, p1, h0, h1, w0, w1)) : pic (p0, p1, h0, h1, w0, w1) / 10 % 10 = p1 := by
  unfold fOk at h; unfold pic; simp only [] at h ⊢; omega
theorem pic_2 {p0 p1 h0 h1 w0 w1 : Nat} (h : fOk (p0, p1, h0, h1, w0, w1)) : pic (p0, p1, h0, h1, w0, w1) / 100 % 10 = h0 := by
  unfold fOk at h; unfold pic; simp only [] at h ⊢; omega
theorem pic_3 {p0 p1 h0 h1 w0 w1 : Nat} (h : fOk (p0, p1, h0, h1, w0, w1)) : pic (p0, p1, h0, h1, w0, w1) / 1000 % 10 = h1 := by
  unfold fOk at h; unfold pic; simp only [] at h ⊢; omega
theorem pic_4 {p0 p1 h0 h1 w0 w1 : Nat} (h : fOk (p0, p1, h0, h1, w0, w1)) : pic (p0, p1, h0, h1, w0, w1) / 10000 % 10 = w0 := by
  unfold fOk at h; unfold pic; simp only [] at h ⊢; omega
theorem pic_5 {p0 p1 h0 h1 w0 w1 : Nat} (h : fOk (p0, p1, h0, h1, w0, w1)) : pic (p0, p1, h0, h1, w0, w1) / 100000 = w1 := by
  unfold fOk at h; unfold pic; simp only [] at h ⊢; omega
/-- what is guessed behind a used move -/
def gs (b : Nat) : Nat := if b = 3 then 0 else b
theorem gs_gs (b : Nat) : gs (gs b) = gs b := by
  unfold gs; split <;> simp_all
/-- the used move of player p at frame f, out of the moves that have arrived (0: none, else the move and one) -/
def U (mv : Nat → Nat) (p : Nat) : Nat → Nat
  | 0 => if mv (40 * p) = 0 then 0 else mv (40 * p) - 1
  | f + 1 => if mv (40 * p + (f + 1)) = 0 then gs (U mv p f) else mv (40 * p + (f + 1)) - 1
/-- the fight after n frames -/
def FF (mv : Nat → Nat) : Nat → Fi
  | 0 => (2, 7, 5, 5, 0, 0)
  | n + 1 => fNext (FF mv n) (U mv 0 n) (U mv 1 n)
theorem FF_ok (mv : Nat → Nat) (n : Nat) : fOk (FF mv n) := by
  induction n with
  | zero =>
    show fOk (2, 7, 5, 5, 0, 0)
    exact ⟨by decide, by decide, by decide, by decide, by decide, by decide⟩
  | succ n ih => exact fNext_ok ih
/-- how many of 1..n have P -/
def cnt (P : Nat → Bool) : Nat → Nat
  | 0 => 0
  | n + 1 => cnt P n + (if P (n + 1) then 1 else 0)
theorem cnt_le (P : Nat → Bool) (n : Nat) : cnt P n ≤ n := by
  induction n with
  | zero => exact Nat.le_refl _
  | succ n ih => unfold cnt; split <;> omega
end
section
/-! PURE LAWS of the spec -/
theorem U_gs {M : Nat → Nat} {p f : Nat} (h : M (40 * p + f) = 0) (h0 : 0 < f) : U M p f = gs (U M p (f - 1)) := by
  cases f with
  | zero => omega
  | succ f => show (if M (40 * p + (f + 1)) = 0 then gs (U M p f) else _) = _; rw [if_pos h]; rfl
theorem U_arr {M : Nat → Nat} {p f : Nat} (h : M (40 * p + f) ≠ 0) : U M p f = M (40 * p + f) - 1 := by
  cases f with
  | zero => exact if_neg h
  | succ f => show (if M (40 * p + (f + 1)) = 0 then gs (U M p f) else _) = _; rw [if_neg h]
theorem U_00 {M : Nat → Nat} {p : Nat} (h : M (40 * p) = 0) : U M p 0 = 0 := by
  show (if M (40 * p) = 0 then 0 else _) = _; rw [if_pos h]
theorem U_lt {M : Nat → Nat} (hM : ∀ i, i < 80 → M i < 5) {p : Nat} (hp : p < 2) : ∀ f, f < 40 → U M p f < 4 := by
  intro f
  induction f with
  | zero =>
    intro _
    have := hM (40 * p) (by omega)
    show (if M (40 * p) = 0 then 0 else _) < 4
    split <;> omega
  | succ f ih =>
    intro hf
    have := hM (40 * p + (f + 1)) (by omega)
    have h1 := ih (by omega)
    show (if M (40 * p + (f + 1)) = 0 then gs (U M p f) else _) < 4
    unfold gs
    split
    · split <;> omega
    · omega
theorem U_low {M M' : Nat → Nat} {p : Nat} : ∀ f, (∀ k, k ≤ f → M' (40 * p + k) = M (40 * p + k)) → U M' p f = U M p f := by
  intro f
  induction f with
  | zero =>
    intro h
    have h0 : M' (40 * p) = M (40 * p) := h 0 (Nat.le_refl _)
    show (if M' (40 * p) = 0 then 0 else _) = (if M (40 * p) = 0 then 0 else _)
    rw [h0]
  | succ f ih =>
    intro h
    show (if M' (40 * p + (f + 1)) = 0 then gs (U M' p f) else _) = (if M (40 * p + (f + 1)) = 0 then gs (U M p f) else _)
    rw [h (f + 1) (Nat.le_refl _), ih (fun k hk => h k (by omega))]
theorem U_tail {M M' : Nat → Nat} {p f : Nat} (h : ∀ k, f ≤ k → k < 40 → M' (40 * p + k) = M (40 * p + k)) (h0 : M (40 * p + f) ≠ 0) : ∀ k, f ≤ k → k < 40 → U M' p k = U M p k := by
  intro k
  induction k with
  | zero =>
    intro hk h40
    have : f = 0 := by omega
    subst this
    have e := h 0 (Nat.le_refl _) h40
    rw [U_arr h0, U_arr (by rw [e]; exact h0), e]
  | succ k ih =>
    intro hk h40
    by_cases hf : f = k + 1
    · subst hf
      have e := h (k + 1) (Nat.le_refl _) h40
      rw [U_arr h0, U_arr (by rw [e]; exact h0), e]
    · have e := h (k + 1) (by omega) h40
      show (if M' (40 * p + (k + 1)) = 0 then gs (U M' p k) else _) = (if M (40 * p + (k + 1)) = 0 then gs (U M p k) else _)
      rw [e, ih (by omega) (by omega)]
theorem FF_low {M M' : Nat → Nat} : ∀ n, (∀ k, k < n → U M' 0 k = U M 0 k ∧ U M' 1 k = U M 1 k) → FF M' n = FF M n := by
  intro n
  induction n with
  | zero => intro _; rfl
  | succ n ih =>
    intro h
    show fNext (FF M' n) (U M' 0 n) (U M' 1 n) = fNext (FF M n) (U M 0 n) (U M 1 n)
    rw [ih (fun k hk => h k (by omega)), (h n (by omega)).1, (h n (by omega)).2]
theorem cnt_ext {P Q : Nat → Bool} : ∀ n, (∀ k, 0 < k → k ≤ n → P k = Q k) → cnt P n = cnt Q n := by
  intro n
  induction n with
  | zero => intro _; rfl
  | succ n ih =>
    intro h
    show cnt P n + _ = cnt Q n + _
    rw [ih (fun k h0 hk => h k h0 (by omega)), h (n + 1) (by omega) (Nat.le_refl _)]
theorem cnt_none {P : Nat → Bool} : ∀ n, (∀ k, 0 < k → k ≤ n → P k = false) → cnt P n = 0 := by
  intro n
  induction n with
  | zero => intro _; rfl
  | succ n ih =>
    intro h
    show cnt P n + _ = 0
    rw [ih (fun k h0 hk => h k h0 (by omega)), h (n + 1) (by omega) (Nat.le_refl _)]
    rfl
theorem cnt_stop {P : Nat → Bool} {m : Nat} : ∀ n, m ≤ n → (∀ k, m < k → k ≤ n → P k = false) → cnt P n = cnt P m := by
  intro n
  induction n with
  | zero => intro h _; have : m = 0 := by omega
            rw [this]
  | succ n ih =>
    intro h hk
    by_cases hm : m = n + 1
    · rw [hm]
    · show cnt P n + _ = _
      rw [ih (by omega) (fun k h1 h2 => hk k h1 (by omega)), hk (n + 1) (by omega) (Nat.le_refl _)]
      rfl
/-- the loop of use: up to frame f the used moves are the new ones -/
def uInv (M M' : Nat → Nat) (p fr f ct : Nat) (uc : Nat → Nat) : Prop :=
  fr < f ∧ f ≤ 40 ∧ fr ≤ ct ∧ ct ≤ f ∧ (∀ k, k < f → uc (40 * p + k) = U M' p k) ∧ (∀ k, f ≤ k → k < 40 → uc (40 * p + k) = U M p k) ∧ (∀ q, q < 2 → q ≠ p → ∀ k, k < 40 → uc (40 * q + k) = U M q k) ∧ (∀ k, ct ≤ k → k < f → U M' p k = U M p k)
/-- one move arrives -/
def uNew (M M' : Nat → Nat) (p fr mo : Nat) : Prop := p < 2 ∧ fr < 40 ∧ mo < 4 ∧ M (40 * p + fr) = 0 ∧ M' = up M (40 * p + fr) (mo + 1)
theorem uNew_at {M M' : Nat → Nat} {p fr mo : Nat} (h : uNew M M' p fr mo) : M' (40 * p + fr) = mo + 1 := by
  obtain ⟨-, -, -, -, rfl⟩ := h
  exact up_at _ _ _
theorem uNew_ne {M M' : Nat → Nat} {p fr mo : Nat} (h : uNew M M' p fr mo) {i : Nat} (hi : i ≠ 40 * p + fr) : M' i = M i := by
  obtain ⟨-, -, -, -, rfl⟩ := h
  exact up_ne _ _ hi
theorem uNew_low {M M' : Nat → Nat} {p fr mo : Nat} (h : uNew M M' p fr mo) {k : Nat} (hk : k < fr) : U M' p k = U M p k :=
  U_low k (fun j hj => uNew_ne h (by omega))
theorem uNew_other {M M' : Nat → Nat} {p fr mo : Nat} (h : uNew M M' p fr mo) {q : Nat} (hq : q < 2) (hqp : q ≠ p) {k : Nat} (hk : k < 40) : U M' q k = U M q k :=
  U_low k (fun j hj => uNew_ne h (by have := h.1; have := h.2.1; omega))
theorem uNew_5 {M M' : Nat → Nat} {p fr mo : Nat} (h : uNew M M' p fr mo) (hM : ∀ i, i < 80 → M i < 5) : ∀ i, i < 80 → M' i < 5 := by
  intro i hi
  by_cases e : i = 40 * p + fr
  · rw [e, uNew_at h]; have := h.2.2.1; omega
  · rw [uNew_ne h e]; exact hM i hi
theorem uNew_mo {M M' : Nat → Nat} {p fr mo : Nat} (h : uNew M M' p fr mo) : U M' p fr = mo := by
  rw [U_arr (by rw [uNew_at h]; omega), uNew_at h]; rfl
theorem uInv_init {M M' : Nat → Nat} {p fr mo : Nat} (h : uNew M M' p fr mo) {us : Nat → Nat} (hu : ∀ q, q < 2 → ∀ k, k < 40 → us (40 * q + k) = U M q k) {ct : Nat} (hct : ct = if us (40 * p + fr) = mo then fr else fr + 1) : uInv M M' p fr (fr + 1) ct (up us (40 * p + fr) mo) := by
  have hp := h.1
  have hf := h.2.1
  refine ⟨by omega, by omega, by rw [hct]; split <;> omega, by rw [hct]; split <;> omega, fun k hk => ?_, fun k hk h40 => ?_, fun q hq hqp k hk => ?_, fun k hk hkf => ?_⟩
  · by_cases e : k = fr
    · subst e; rw [up_at, uNew_mo h]
    · rw [up_ne _ _ (by omega), hu p hp k (by omega), uNew_low h (by omega)]
  · rw [up_ne _ _ (by omega), hu p hp k h40]
  · rw [up_ne _ _ (by omega), hu q hq k hk]
  · by_cases e : us (40 * p + fr) = mo
    · rw [if_pos e] at hct
      have : k = fr := by omega
      subst this
      rw [uNew_mo h, ← hu p hp k hf, e]
    · rw [if_neg e] at hct; omega
theorem uInv_gs {M M' : Nat → Nat} {p fr f ct : Nat} {uc : Nat → Nat} (h : uInv M M' p fr f ct uc) (hf : f < 40) (h0 : M' (40 * p + f) = 0) : (if f = 0 then 0 else gs (uc (40 * p + f - 1))) = U M' p f := by
  have h1 := h.1
  rw [if_neg (by omega), U_gs h0 (by omega), show 40 * p + f - 1 = 40 * p + (f - 1) by omega, h.2.2.2.2.1 (f - 1) (by omega)]
theorem uInv_eq {M M' : Nat → Nat} {p fr f ct : Nat} {uc : Nat → Nat} (h : uInv M M' p fr f ct uc) (hf : f < 40) (he : uc (40 * p + f) = U M' p f) : uInv M M' p fr (f + 1) ct uc := by
  obtain ⟨a1, a2, a3, a4, a5, a6, a7, a8⟩ := h
  refine ⟨by omega, by omega, a3, by omega, fun k hk => ?_, fun k hk h40 => a6 k (by omega) h40, a7, fun k hk hkf => ?_⟩
  · by_cases e : k = f
    · subst e; exact he
    · exact a5 k (by omega)
  · by_cases e : k = f
    · subst e; rw [← he, a6 k (Nat.le_refl _) hf]
    · exact a8 k hk (by omega)
theorem uInv_ne {M M' : Nat → Nat} {p fr f ct : Nat} {uc : Nat → Nat} (h : uInv M M' p fr f ct uc) (hf : f < 40) (hp : p < 2) : uInv M M' p fr (f + 1) (f + 1) (up uc (40 * p + f) (U M' p f)) := by
  obtain ⟨a1, a2, a3, a4, a5, a6, a7, a8⟩ := h
  refine ⟨by omega, by omega, by omega, by omega, fun k hk => ?_, fun k hk h40 => ?_, fun q hq hqp k hk => ?_, fun k hk hkf => by omega⟩
  · by_cases e : k = f
    · subst e; rw [up_at]
    · rw [up_ne _ _ (by omega)]; exact a5 k (by omega)
  · rw [up_ne _ _ (by omega)]; exact a6 k (by omega) h40
  · rw [up_ne _ _ (by omega)]; exact a7 q hq hqp k hk
/-- what use leaves -/
def uEnd (M M' : Nat → Nat) (p fr ct : Nat) (uc : Nat → Nat) : Prop :=
  fr ≤ ct ∧ ct ≤ 40 ∧ (∀ q, q < 2 → ∀ k, k < 40 → uc (40 * q + k) = U M' q k) ∧ (∀ q, q < 2 → ∀ k, ct ≤ k → k < 40 → U M' q k = U M q k) ∧ (∀ q, q < 2 → ∀ k, k < fr → U M' q k = U M q k)
theorem uInv_end {M M' : Nat → Nat} {p fr mo f ct : Nat} {uc : Nat → Nat} (hN : uNew M M' p fr mo) (h : uInv M M' p fr f ct uc) (he : f = 40 ∨ (f < 40 ∧ M' (40 * p + f) ≠ 0)) : uEnd M M' p fr ct uc := by
  obtain ⟨a1, a2, a3, a4, a5, a6, a7, a8⟩ := h
  have hp := hN.1
  have htail : ∀ k, f ≤ k → k < 40 → U M' p k = U M p k := by
    rcases he with he | ⟨h40, hne⟩
    · intro k h1 h2; omega
    · have e : ∀ k, f ≤ k → k < 40 → M' (40 * p + k) = M (40 * p + k) := fun k hk _ => uNew_ne hN (by omega)
      exact U_tail e (by rw [← e f (Nat.le_refl _) h40]; exact hne)
  refine ⟨a3, by omega, fun q hq k hk => ?_, fun q hq k hk h40 => ?_, fun q hq k hk => ?_⟩
  · by_cases e : q = p
    · subst e
      by_cases hkf : k < f
      · exact a5 k hkf
      · rw [a6 k (by omega) hk, htail k (by omega) hk]
    · rw [a7 q hq e k hk, uNew_other hN hq e hk]
  · by_cases e : q = p
    · subst e
      by_cases hkf : k < f
      · exact a8 k hk hkf
      · exact htail k (by omega) h40
    · exact uNew_other hN hq e h40
  · by_cases e : q = p
    · subst e; exact uNew_low hN hk
    · exact uNew_other hN hq e (by have := hN.2.1; omega)
/-- which saved fields, of frames played, are others now -/
def rP (M : Nat → Nat) (d : Nat) (sv : Nat → Nat) (n : Nat) : Bool := decide (n ≤ d ∧ sv n ≠ pic (FF M n))
/-- the loop of replay: up to frame f the saved fields are the new ones -/
def rInv (M : Nat → Nat) (d fr f k df : Nat) (sv sc : Nat → Nat) : Prop :=
  fr ≤ f ∧ f ≤ 40 ∧ df < 2 ∧ (∀ n, n ≤ f → sc n = pic (FF M n)) ∧ (∀ n, f < n → n ≤ 40 → sc n = sv n) ∧ k = cnt (rP M d sv) f ∧ (df = 0 → sv f = pic (FF M f))
theorem rInv_init {M : Nat → Nat} {d fr : Nat} {sv : Nat → Nat} (hf : fr ≤ 40) (h : ∀ n, n ≤ fr → sv n = pic (FF M n)) : rInv M d fr fr 0 1 sv sv := by
  refine ⟨Nat.le_refl _, hf, by decide, h, fun _ _ _ => rfl, ?_, fun e => absurd e (by decide)⟩
  exact (cnt_none fr (fun k _ hk => by simp [rP, h k hk])).symm
theorem rInv_step {M : Nat → Nat} {d fr f k df : Nat} {sv sc : Nat → Nat} (h : rInv M d fr f k df sv sc) (hf : f < 40) (df' k' : Nat) (hdf : df' = if pic (FF M (f + 1)) = sc (f + 1) then 0 else 1) (hk : k' = k + (if df' ≠ 0 ∧ f + 1 ≤ d then 1 else 0)) : rInv M d fr (f + 1) k' df' sv (up sc (f + 1) (pic (FF M (f + 1)))) := by
  obtain ⟨a1, a2, a3, a4, a5, a6, a7⟩ := h
  have e1 := a5 (f + 1) (by omega) (by omega)
  refine ⟨by omega, by omega, by rw [hdf]; split <;> omega, fun n hn => ?_, fun n hn h40 => ?_, ?_, fun e => ?_⟩
  · by_cases e : n = f + 1
    · subst e; rw [up_at]
    · rw [up_ne _ _ e]; exact a4 n (by omega)
  · rw [up_ne _ _ (by omega)]; exact a5 n (by omega) h40
  · rw [hk, a6]
    show _ = cnt (rP M d sv) f + (if rP M d sv (f + 1) then 1 else 0)
    congr 1
    rw [hdf, e1]
    unfold rP
    by_cases e2 : pic (FF M (f + 1)) = sv (f + 1)
    · simp [e2]
    · have e3 : sv (f + 1) ≠ pic (FF M (f + 1)) := fun z => e2 z.symm
      simp [e2, e3]
  · rw [e] at hdf
    by_cases e2 : pic (FF M (f + 1)) = sc (f + 1)
    · rw [← e1, e2]
    · rw [if_neg e2] at hdf; omega
theorem rInv_end {M : Nat → Nat} {d fr f k df ut : Nat} {sv sc : Nat → Nat} (h : rInv M d fr f k df sv sc) (hrest : ∀ n, ut ≤ n → n < 40 → sv n = pic (FF M n) → sv (n + 1) = pic (FF M (n + 1))) (he : f = 40 ∨ (ut ≤ f ∧ df = 0)) : (∀ n, n ≤ 40 → sc n = pic (FF M n)) ∧ k = cnt (rP M d sv) 40 := by
  obtain ⟨a1, a2, a3, a4, a5, a6, a7⟩ := h
  rcases he with he | ⟨hu, hdf⟩
  · subst he
    exact ⟨a4, a6⟩
  · have key : ∀ j, f + j ≤ 40 → sv (f + j) = pic (FF M (f + j)) := by
      intro j
      induction j with
      | zero => intro _; exact a7 hdf
      | succ j ih => intro hj; exact hrest (f + j) (by omega) (by omega) (ih (by omega))
    have key2 : ∀ n, f ≤ n → n ≤ 40 → sv n = pic (FF M n) := fun n h1 h2 => by
      have := key (n - f) (by omega)
      rwa [show f + (n - f) = n by omega] at this
    refine ⟨fun n hn => ?_, ?_⟩
    · by_cases e : n ≤ f
      · exact a4 n e
      · rw [a5 n (by omega) hn]; exact key2 n (by omega) hn
    · rw [a6]
      exact (cnt_stop 40 a2 (fun n h1 h2 => by simp [rP, key2 n (by omega) h2])).symm
theorem near_lt {a b : Nat} (ha : a ≤ 9) (hb : b ≤ 9) : nI a - nI b < -1 ↔ a + 1 < b := by
  rw [Int32.lt_iff_toInt_lt, pk_sub_toInt (by omega) (by omega), show (-1 : Int32).toInt = -1 by decide]
  omega
theorem near_gt {a b : Nat} (ha : a ≤ 9) (hb : b ≤ 9) : nI 1 < nI a - nI b ↔ b + 1 < a := by
  rw [Int32.lt_iff_toInt_lt, pk_sub_toInt (by omega) (by omega), show (nI 1).toInt = 1 by decide]
  omega
end
section
/-! X0's leaves: isPlayer, isFrame, isOver, load, pack, go, strike, guess -/

set_option maxHeartbeats 4000000 in
set_option maxRecDepth 100000 in
theorem mX0_isPlayer (l : Launch) (D : va_G) (ad : Nat → Nat) (ca : Nat → ClassId) (ar us sv : Nat → Nat) (d p0 p1 h0 h1 w0 w1 : Nat) (x : Int32) : XMi l yX0_isPlayer (ws_ yX0_isPlayer cX0_isPlayer 1 (some .boolean)) ({ frames := 0, cells := 0, slots := 0, locals := 0 }) D (gw ad ca) (gt ca) [.int x] (ar, us, sv, d, p0, p1, h0, h1, w0, w1) (fun r u => u = (ar, us, sv, d, p0, p1, h0, h1, w0, w1) ∧ ((r = nI 1 ∧ inB 2 x) ∨ (r = nI 0 ∧ ¬ inB 2 x))) := by
  refine xe_i (own := RX0) (by decide) rfl (Nat.le_of_ble_eq_true rfl) ?_
  intro p e s m below meth c A R args Q hR hC hret H locs hG ls hl
  obtain ⟨hx, hb, hml, hown, hts, hK, hA⟩ := id hC
  have hl : lv_has ls 1 [(0, .int x)] := hl
  refine lv_iload_n hx hb dX0_isPlayer_0 rfl (lv_at hl 0 rfl) ?_
  refine lv_if_eq hx hb (tgt := 9) dX0_isPlayer_1 (by decide) (fun hq1 => ?_) (fun hq1 => ?_)
  · refine lv_iconst (v := nI 1) hx hb dX0_isPlayer_9 (by decide) ?_
    refine lv_goto (tgt := 14) hx hb dX0_isPlayer_10 (by decide) ?_
    exact hret _ _ _ _ _ _ hG (⟨rfl, by first | exact Or.inl ⟨rfl, inB2_0 hq1⟩ | exact Or.inl ⟨rfl, inB2_1 hq6⟩ | exact Or.inr ⟨rfl, inB2_n hq1 hq6⟩⟩) rfl dX0_isPlayer_14
  · refine lv_iload_n hx hb dX0_isPlayer_4 rfl (lv_at hl 0 rfl) ?_
    refine lv_iconst (v := nI 1) hx hb dX0_isPlayer_5 (by decide) ?_
    refine lv_icmp_ne hx hb (tgt := 13) dX0_isPlayer_6 (by decide) (fun hq6 => ?_) (fun hq6 => ?_)
    · refine lv_iconst (v := nI 0) hx hb dX0_isPlayer_13 (by decide) ?_
      exact hret _ _ _ _ _ _ hG (⟨rfl, by first | exact Or.inl ⟨rfl, inB2_0 hq1⟩ | exact Or.inl ⟨rfl, inB2_1 hq6⟩ | exact Or.inr ⟨rfl, inB2_n hq1 hq6⟩⟩) rfl dX0_isPlayer_14
    · refine lv_iconst (v := nI 1) hx hb dX0_isPlayer_9 (by decide) ?_
      refine lv_goto (tgt := 14) hx hb dX0_isPlayer_10 (by decide) ?_
      exact hret _ _ _ _ _ _ hG (⟨rfl, by first | exact Or.inl ⟨rfl, inB2_0 hq1⟩ | exact Or.inl ⟨rfl, inB2_1 hq6⟩ | exact Or.inr ⟨rfl, inB2_n hq1 hq6⟩⟩) rfl dX0_isPlayer_14

set_option maxHeartbeats 4000000 in
set_option maxRecDepth 100000 in
theorem mX0_isFrame (l : Launch) (D : va_G) (ad : Nat → Nat) (ca : Nat → ClassId) (ar us sv : Nat → Nat) (d p0 p1 h0 h1 w0 w1 : Nat) (x : Int32) : XMi l yX0_isFrame (ws_ yX0_isFrame cX0_isFrame 1 (some .boolean)) ({ frames := 0, cells := 0, slots := 0, locals := 0 }) D (gw ad ca) (gt ca) [.int x] (ar, us, sv, d, p0, p1, h0, h1, w0, w1) (fun r u => u = (ar, us, sv, d, p0, p1, h0, h1, w0, w1) ∧ ((r = nI 1 ∧ inB 40 x) ∨ (r = nI 0 ∧ ¬ inB 40 x))) := by
  refine xe_i (own := RX0) (by decide) rfl (Nat.le_of_ble_eq_true rfl) ?_
  intro p e s m below meth c A R args Q hR hC hret H locs hG ls hl
  obtain ⟨hx, hb, hml, hown, hts, hK, hA⟩ := id hC
  have hl : lv_has ls 1 [(0, .int x)] := hl
  refine lv_iload_n hx hb dX0_isFrame_0 rfl (lv_at hl 0 rfl) ?_
  refine lv_if_lt hx hb (tgt := 14) dX0_isFrame_1 (by decide) (fun hq1 => ?_) (fun hq1 => ?_)
  · refine lv_iconst (v := nI 0) hx hb dX0_isFrame_14 (by decide) ?_
    exact hret _ _ _ _ _ _ hG (⟨rfl, by first | exact Or.inl ⟨rfl, inB_mk (by decide) hq1 hq7⟩ | exact Or.inr ⟨rfl, inB_neg (by decide) hq1⟩ | exact Or.inr ⟨rfl, inB_big (by decide) hq7⟩⟩) rfl dX0_isFrame_15
  · refine lv_iload_n hx hb dX0_isFrame_4 rfl (lv_at hl 0 rfl) ?_
    refine lv_bipush (v := nI 40) hx hb dX0_isFrame_5 (by decide) ?_
    refine lv_icmp_ge hx hb (tgt := 14) dX0_isFrame_7 (by decide) (fun hq7 => ?_) (fun hq7 => ?_)
    · refine lv_iconst (v := nI 0) hx hb dX0_isFrame_14 (by decide) ?_
      exact hret _ _ _ _ _ _ hG (⟨rfl, by first | exact Or.inl ⟨rfl, inB_mk (by decide) hq1 hq7⟩ | exact Or.inr ⟨rfl, inB_neg (by decide) hq1⟩ | exact Or.inr ⟨rfl, inB_big (by decide) hq7⟩⟩) rfl dX0_isFrame_15
    · refine lv_iconst (v := nI 1) hx hb dX0_isFrame_10 (by decide) ?_
      refine lv_goto (tgt := 15) hx hb dX0_isFrame_11 (by decide) ?_
      exact hret _ _ _ _ _ _ hG (⟨rfl, by first | exact Or.inl ⟨rfl, inB_mk (by decide) hq1 hq7⟩ | exact Or.inr ⟨rfl, inB_neg (by decide) hq1⟩ | exact Or.inr ⟨rfl, inB_big (by decide) hq7⟩⟩) rfl dX0_isFrame_15

set_option maxHeartbeats 4000000 in
set_option maxRecDepth 100000 in
theorem mX0_isOver (l : Launch) (D : va_G) (ad : Nat → Nat) (ca : Nat → ClassId) (ar us sv : Nat → Nat) (d p0 p1 h0 h1 w0 w1 : Nat) (y0 y1 y2 y3 y4 y5 : Nat) (hy : fOk (y0, y1, y2, y3, y4, y5)) : XMi l yX0_isOver (ws_ yX0_isOver cX0_isOver 1 (some .boolean)) ({ frames := 0, cells := 0, slots := 0, locals := 0 }) D (gw ad ca) (gt ca) [.int (nI (pic (y0, y1, y2, y3, y4, y5)))] (ar, us, sv, d, p0, p1, h0, h1, w0, w1) (fun r u => u = (ar, us, sv, d, p0, p1, h0, h1, w0, w1) ∧ ((r = nI 1 ∧ (y2 = 0 ∨ y3 = 0)) ∨ (r = nI 0 ∧ ¬ (y2 = 0 ∨ y3 = 0)))) := by
  refine xe_i (own := RX0) (by decide) rfl (Nat.le_of_ble_eq_true rfl) ?_
  intro p e s m below meth c A R args Q hR hC hret H locs hG ls hl
  obtain ⟨hx, hb, hml, hown, hts, hK, hA⟩ := id hC
  have hl : lv_has ls 1 [(0, .int (nI (pic (y0, y1, y2, y3, y4, y5))))] := hl
  have hlt := pic_lt hy
  have e2 := pic_2 hy
  have e3 := pic_3 hy
  refine lv_iload_n hx hb dX0_isOver_0 rfl (lv_at hl 0 rfl) ?_
  refine lv_bipush (v := nI 100) hx hb dX0_isOver_1 (by decide) ?_
  refine n_div (by omega) (by decide) hx hb dX0_isOver_3 ?_
  refine lv_bipush (v := nI 10) hx hb dX0_isOver_4 (by decide) ?_
  refine n_rem (by omega) (by decide) hx hb dX0_isOver_6 ?_
  refine n_if_eq (by omega) hx hb (tgt := 21) dX0_isOver_7 (by decide) (fun hq7 => ?_) (fun hq7 => ?_)
  · refine lv_iconst (v := nI 1) hx hb dX0_isOver_21 (by decide) ?_
    refine lv_goto (tgt := 26) hx hb dX0_isOver_22 (by decide) ?_
    exact hret _ _ _ _ _ _ hG (⟨rfl, by first | exact Or.inl ⟨rfl, Or.inl (e2 ▸ hq7)⟩ | exact Or.inl ⟨rfl, Or.inr (e3 ▸ h18)⟩ | exact Or.inr ⟨rfl, by omega⟩⟩) rfl dX0_isOver_26
  · refine lv_iload_n hx hb dX0_isOver_10 rfl (lv_at hl 0 rfl) ?_
    refine lv_sipush (v := nI 1000) hx hb dX0_isOver_11 (by decide) ?_
    refine n_div (by omega) (by decide) hx hb dX0_isOver_14 ?_
    refine lv_bipush (v := nI 10) hx hb dX0_isOver_15 (by decide) ?_
    refine n_rem (by omega) (by decide) hx hb dX0_isOver_17 ?_
    refine n_if_ne (by omega) hx hb (tgt := 25) dX0_isOver_18 (by decide) (fun h18 => ?_) (fun h18 => ?_)
    · refine lv_iconst (v := nI 0) hx hb dX0_isOver_25 (by decide) ?_
      exact hret _ _ _ _ _ _ hG (⟨rfl, by first | exact Or.inl ⟨rfl, Or.inl (e2 ▸ hq7)⟩ | exact Or.inl ⟨rfl, Or.inr (e3 ▸ h18)⟩ | exact Or.inr ⟨rfl, by omega⟩⟩) rfl dX0_isOver_26
    · refine lv_iconst (v := nI 1) hx hb dX0_isOver_21 (by decide) ?_
      refine lv_goto (tgt := 26) hx hb dX0_isOver_22 (by decide) ?_
      exact hret _ _ _ _ _ _ hG (⟨rfl, by first | exact Or.inl ⟨rfl, Or.inl (e2 ▸ hq7)⟩ | exact Or.inl ⟨rfl, Or.inr (e3 ▸ h18)⟩ | exact Or.inr ⟨rfl, by omega⟩⟩) rfl dX0_isOver_26

set_option maxHeartbeats 4000000 in
set_option maxRecDepth 100000 in
theorem mX0_load (l : Launch) (D : va_G) (ad : Nat → Nat) (ca : Nat → ClassId) (ar us sv : Nat → Nat) (d p0 p1 h0 h1 w0 w1 : Nat) (y0 y1 y2 y3 y4 y5 : Nat) (hy : fOk (y0, y1, y2, y3, y4, y5)) : XMv l yX0_load (ws_ yX0_load cX0_load 2 none) ({ frames := 0, cells := 0, slots := 0, locals := 0 }) D (gw ad ca) (gt ca) [.ref (ad 0), .int (nI (pic (y0, y1, y2, y3, y4, y5)))] (ar, us, sv, d, p0, p1, h0, h1, w0, w1) (fun u => u = (ar, us, sv, d, y0, y1, y2, y3, y4, y5)) := by
  refine xe_v (own := RX0) (by decide) rfl (Nat.le_of_ble_eq_true rfl) ?_
  intro p e s m below meth c A R args Q hR hC hret H locs hG ls hl
  obtain ⟨hx, hb, hml, hown, hts, hK, hA⟩ := id hC
  have hl : lv_has ls 2 [(0, .ref (ad 0)), (1, .int (nI (pic (y0, y1, y2, y3, y4, y5))))] := hl
  have hlt := pic_lt hy
  have e0 := pic_0 hy
  have e1 := pic_1 hy
  have e2 := pic_2 hy
  have e3 := pic_3 hy
  have e4 := pic_4 hy
  have e5 := pic_5 hy
  have hy2 := hy
  unfold fOk at hy2
  simp only [] at hy2
  refine lv_aload_n hx hb dX0_load_0 rfl (lv_at hl 0 rfl) ?_
  refine g_f_pl hC hG dX0_load_1 ?_
  refine lv_iconst (v := nI 0) hx hb dX0_load_4 (by decide) ?_
  refine lv_iload_n hx hb dX0_load_5 rfl (lv_at hl 1 rfl) ?_
  refine lv_bipush (v := nI 10) hx hb dX0_load_6 (by decide) ?_
  refine n_rem (by omega) (by decide) hx hb dX0_load_8 ?_
  refine n_i2b (by omega) hx hb dX0_load_9 ?_
  refine g_s_p0 (by omega) hC hG dX0_load_10 (fun H locs hG => ?_)
  refine lv_aload_n hx hb dX0_load_11 rfl (lv_at hl 0 rfl) ?_
  refine g_f_pl hC hG dX0_load_12 ?_
  refine lv_iconst (v := nI 1) hx hb dX0_load_15 (by decide) ?_
  refine lv_iload_n hx hb dX0_load_16 rfl (lv_at hl 1 rfl) ?_
  refine lv_bipush (v := nI 10) hx hb dX0_load_17 (by decide) ?_
  refine n_div (by omega) (by decide) hx hb dX0_load_19 ?_
  refine lv_bipush (v := nI 10) hx hb dX0_load_20 (by decide) ?_
  refine n_rem (by omega) (by decide) hx hb dX0_load_22 ?_
  refine n_i2b (by omega) hx hb dX0_load_23 ?_
  refine g_s_p1 (by omega) hC hG dX0_load_24 (fun H locs hG => ?_)
  refine lv_aload_n hx hb dX0_load_25 rfl (lv_at hl 0 rfl) ?_
  refine g_f_po hC hG dX0_load_26 ?_
  refine lv_iconst (v := nI 0) hx hb dX0_load_29 (by decide) ?_
  refine lv_iload_n hx hb dX0_load_30 rfl (lv_at hl 1 rfl) ?_
  refine lv_bipush (v := nI 100) hx hb dX0_load_31 (by decide) ?_
  refine n_div (by omega) (by decide) hx hb dX0_load_33 ?_
  refine lv_bipush (v := nI 10) hx hb dX0_load_34 (by decide) ?_
  refine n_rem (by omega) (by decide) hx hb dX0_load_36 ?_
  refine n_i2b (by omega) hx hb dX0_load_37 ?_
  refine g_s_h0 (by omega) hC hG dX0_load_38 (fun H locs hG => ?_)
  refine lv_aload_n hx hb dX0_load_39 rfl (lv_at hl 0 rfl) ?_
  refine g_f_po hC hG dX0_load_40 ?_
  refine lv_iconst (v := nI 1) hx hb dX0_load_43 (by decide) ?_
  refine lv_iload_n hx hb dX0_load_44 rfl (lv_at hl 1 rfl) ?_
  refine lv_sipush (v := nI 1000) hx hb dX0_load_45 (by decide) ?_
  refine n_div (by omega) (by decide) hx hb dX0_load_48 ?_
  refine lv_bipush (v := nI 10) hx hb dX0_load_49 (by decide) ?_
  refine n_rem (by omega) (by decide) hx hb dX0_load_51 ?_
  refine n_i2b (by omega) hx hb dX0_load_52 ?_
  refine g_s_h1 (by omega) hC hG dX0_load_53 (fun H locs hG => ?_)
  refine lv_aload_n hx hb dX0_load_54 rfl (lv_at hl 0 rfl) ?_
  refine g_f_pa hC hG dX0_load_55 ?_
  refine lv_iconst (v := nI 0) hx hb dX0_load_58 (by decide) ?_
  refine lv_iload_n hx hb dX0_load_59 rfl (lv_at hl 1 rfl) ?_
  refine lv_sipush (v := nI 10000) hx hb dX0_load_60 (by decide) ?_
  refine n_div (by omega) (by decide) hx hb dX0_load_63 ?_
  refine lv_bipush (v := nI 10) hx hb dX0_load_64 (by decide) ?_
  refine n_rem (by omega) (by decide) hx hb dX0_load_66 ?_
  refine n_i2b (by omega) hx hb dX0_load_67 ?_
  refine g_s_w0 (by omega) hC hG dX0_load_68 (fun H locs hG => ?_)
  refine lv_aload_n hx hb dX0_load_69 rfl (lv_at hl 0 rfl) ?_
  refine g_f_pa hC hG dX0_load_70 ?_
  refine lv_iconst (v := nI 1) hx hb dX0_load_73 (by decide) ?_
  refine lv_iload_n hx hb dX0_load_74 rfl (lv_at hl 1 rfl) ?_
  refine n_ldc hx hb hown (hts _ q43) (k := 100000) (by decide) dX0_load_75 ?_
  refine n_div (by omega) (by decide) hx hb dX0_load_77 ?_
  refine n_i2b (by omega) hx hb dX0_load_78 ?_
  refine g_s_w1 (by omega) hC hG dX0_load_79 (fun H locs hG => ?_)
  exact hret _ _ _ _ _ hG (by rw [e0, e1, e2, e3, e4, e5]) dX0_load_80

set_option maxHeartbeats 4000000 in
set_option maxRecDepth 100000 in
theorem mX0_pack (l : Launch) (D : va_G) (ad : Nat → Nat) (ca : Nat → ClassId) (ar us sv : Nat → Nat) (d p0 p1 h0 h1 w0 w1 : Nat) : XMi l yX0_pack (ws_ yX0_pack cX0_pack 1 (some .int)) ({ frames := 0, cells := 0, slots := 0, locals := 0 }) D (gw ad ca) (gt ca) [.ref (ad 0)] (ar, us, sv, d, p0, p1, h0, h1, w0, w1) (fun r u => u = (ar, us, sv, d, p0, p1, h0, h1, w0, w1) ∧ r = nI (pic (p0, p1, h0, h1, w0, w1))) := by
  refine xe_i (own := RX0) (by decide) rfl (Nat.le_of_ble_eq_true rfl) ?_
  intro p e s m below meth c A R args Q hR hC hret H locs hG ls hl
  obtain ⟨hx, hb, hml, hown, hts, hK, hA⟩ := id hC
  have hl : lv_has ls 1 [(0, .ref (ad 0))] := hl
  refine lv_aload_n hx hb dX0_pack_0 rfl (lv_at hl 0 rfl) ?_
  refine g_f_pl hC hG dX0_pack_1 ?_
  refine lv_iconst (v := nI 0) hx hb dX0_pack_4 (by decide) ?_
  refine g_l_p0 hC hG dX0_pack_5 ?_
  refine lv_bipush (v := nI 10) hx hb dX0_pack_6 (by decide) ?_
  refine lv_aload_n hx hb dX0_pack_8 rfl (lv_at hl 0 rfl) ?_
  refine g_f_pl hC hG dX0_pack_9 ?_
  refine lv_iconst (v := nI 1) hx hb dX0_pack_12 (by decide) ?_
  refine g_l_p1 hC hG dX0_pack_13 ?_
  refine n_mul hx hb dX0_pack_14 ?_
  refine n_add hx hb dX0_pack_15 ?_
  refine lv_bipush (v := nI 100) hx hb dX0_pack_16 (by decide) ?_
  refine lv_aload_n hx hb dX0_pack_18 rfl (lv_at hl 0 rfl) ?_
  refine g_f_po hC hG dX0_pack_19 ?_
  refine lv_iconst (v := nI 0) hx hb dX0_pack_22 (by decide) ?_
  refine g_l_h0 hC hG dX0_pack_23 ?_
  refine n_mul hx hb dX0_pack_24 ?_
  refine n_add hx hb dX0_pack_25 ?_
  refine lv_sipush (v := nI 1000) hx hb dX0_pack_26 (by decide) ?_
  refine lv_aload_n hx hb dX0_pack_29 rfl (lv_at hl 0 rfl) ?_
  refine g_f_po hC hG dX0_pack_30 ?_
  refine lv_iconst (v := nI 1) hx hb dX0_pack_33 (by decide) ?_
  refine g_l_h1 hC hG dX0_pack_34 ?_
  refine n_mul hx hb dX0_pack_35 ?_
  refine n_add hx hb dX0_pack_36 ?_
  refine lv_sipush (v := nI 10000) hx hb dX0_pack_37 (by decide) ?_
  refine lv_aload_n hx hb dX0_pack_40 rfl (lv_at hl 0 rfl) ?_
  refine g_f_pa hC hG dX0_pack_41 ?_
  refine lv_iconst (v := nI 0) hx hb dX0_pack_44 (by decide) ?_
  refine g_l_w0 hC hG dX0_pack_45 ?_
  refine n_mul hx hb dX0_pack_46 ?_
  refine n_add hx hb dX0_pack_47 ?_
  refine n_ldc hx hb hown (hts _ q43) (k := 100000) (by decide) dX0_pack_48 ?_
  refine lv_aload_n hx hb dX0_pack_50 rfl (lv_at hl 0 rfl) ?_
  refine g_f_pa hC hG dX0_pack_51 ?_
  refine lv_iconst (v := nI 1) hx hb dX0_pack_54 (by decide) ?_
  refine g_l_w1 hC hG dX0_pack_55 ?_
  refine n_mul hx hb dX0_pack_56 ?_
  refine n_add hx hb dX0_pack_57 ?_
  exact hret _ _ _ _ _ _ hG (⟨rfl, rfl⟩) rfl dX0_pack_58

set_option maxHeartbeats 4000000 in
set_option maxRecDepth 100000 in
theorem mX0_go0 (l : Launch) (D : va_G) (ad : Nat → Nat) (ca : Nat → ClassId) (ar us sv : Nat → Nat) (d p0 p1 h0 h1 w0 w1 : Nat) (x : Int32) (mv : Nat) (hm : actsAs x mv) (hp : p0 ≤ 9 ∧ p1 ≤ 9) : XMv l yX0_go (ws_ yX0_go cX0_go 4 none) ({ frames := 0, cells := 0, slots := 0, locals := 0 }) D (gw ad ca) (gt ca) [.ref (ad 0), .int (nI 0), .int x] (ar, us, sv, d, p0, p1, h0, h1, w0, w1) (fun u => u = (ar, us, sv, d, gGo p0 p1 mv, p1, h0, h1, w0, w1)) := by
  refine xe_v (own := RX0) (by decide) rfl (Nat.le_of_ble_eq_true rfl) ?_
  intro p e s m below meth c A R args Q hR hC hret H locs hG ls hl
  obtain ⟨hx, hb, hml, hown, hts, hK, hA⟩ := id hC
  have hl : lv_has ls 4 [(0, .ref (ad 0)), (1, .int (nI 0)), (2, .int x)] := hl
  obtain ⟨hm1, hm2, hm3⟩ := hm
  have J36 : ∀ (t : Nat), (t = gTo p0 mv) → ∀ (H : Heap) (locs : List Loc), xS D (gw ad ca) A s (ar, us, sv, d, p0, p1, h0, h1, w0, w1) H locs → ∀ ls : Array Slot, lv_has ls 4 [(3, .int (nI t)), (0, .ref (ad 0)), (1, .int (nI 0)), (2, .int x)] → W p l e R s m args below meth c H locs 0 0 Q (F0 m 36 ls []) := by
    intro t ht H locs hG ls hl
    have ht9 : t ≤ 9 := by rw [ht]; exact gTo_le (by omega)
    refine lv_iload_n hx hb dX0_go_36 rfl (lv_at hl 0 rfl) ?_
    refine lv_aload_n hx hb dX0_go_37 rfl (lv_at hl 1 rfl) ?_
    refine g_f_pl hC hG dX0_go_38 ?_
    refine lv_iconst (v := nI 1) hx hb dX0_go_41 (by decide) ?_
    refine lv_iload_n hx hb dX0_go_42 rfl (lv_at hl 2 rfl) ?_
    refine n_sub (by decide) hx hb dX0_go_43 ?_
    refine n_as 1 rfl ?_
    refine g_l_p1 hC hG dX0_go_44 ?_
    refine n_icmp_eq (by omega) hx hb (tgt := 56) dX0_go_45 (by decide) (fun h45 => ?_) (fun h45 => ?_)
    · exact hret _ _ _ _ _ hG (by first | rw [gGo, ← ht, if_pos h45] | rw [gGo, ← ht, if_neg h45]) dX0_go_56
    · refine lv_aload_n hx hb dX0_go_48 rfl (lv_at hl 1 rfl) ?_
      refine g_f_pl hC hG dX0_go_49 ?_
      refine lv_iload_n hx hb dX0_go_52 rfl (lv_at hl 2 rfl) ?_
      refine lv_iload_n hx hb dX0_go_53 rfl (lv_at hl 0 rfl) ?_
      refine n_i2b (by omega) hx hb dX0_go_54 ?_
      refine g_s_p0 (by omega) hC hG dX0_go_55 (fun H locs hG => ?_)
      exact hret _ _ _ _ _ hG (by first | rw [gGo, ← ht, if_pos h45] | rw [gGo, ← ht, if_neg h45]) dX0_go_56
  refine lv_aload_n hx hb dX0_go_0 rfl (lv_at hl 0 rfl) ?_
  refine g_f_pl hC hG dX0_go_1 ?_
  refine lv_iload_n hx hb dX0_go_4 rfl (lv_at hl 1 rfl) ?_
  refine g_l_p0 hC hG dX0_go_5 ?_
  refine lv_istore_n (lv' := [(3, .int (nI p0)), (0, .ref (ad 0)), (1, .int (nI 0)), (2, .int x)]) hx hb dX0_go_6 rfl hl (by decide) rfl (fun ls hl => ?_)
  refine lv_iload_n hx hb dX0_go_7 rfl (lv_at hl 3 rfl) ?_
  refine lv_iconst (v := nI 1) hx hb dX0_go_8 (by decide) ?_
  refine lv_icmp_ne hx hb (tgt := 22) dX0_go_9 (by decide) (fun hq9 => ?_) (fun hq9 => ?_)
  · refine lv_iload_n hx hb dX0_go_22 rfl (lv_at hl 3 rfl) ?_
    refine lv_iconst (v := nI 2) hx hb dX0_go_23 (by decide) ?_
    refine lv_icmp_ne hx hb (tgt := 36) dX0_go_24 (by decide) (fun h24 => ?_) (fun h24 => ?_)
    · exact J36 p0 (by unfold gTo; grind) _ _ hG ls (lv_sub hl [0, 1, 2, 3] rfl)
    · refine lv_iload_n hx hb dX0_go_27 rfl (lv_at hl 0 rfl) ?_
      refine lv_bipush (v := nI 9) hx hb dX0_go_28 (by decide) ?_
      refine n_icmp_ge (by omega) hx hb (tgt := 36) dX0_go_30 (by decide) (fun h30 => ?_) (fun h30 => ?_)
      · exact J36 p0 (by unfold gTo; grind) _ _ hG ls (lv_sub hl [0, 1, 2, 3] rfl)
      · refine lv_iinc (v := nI (p0 + 1)) (lv' := [(3, .int (nI (p0 + 1))), (0, .ref (ad 0)), (1, .int (nI 0)), (2, .int x)]) hx hb dX0_go_33 hl (k := 0) rfl (inc1 _) (by decide) rfl (fun ls hl => ?_)
        exact J36 (p0 + 1) (by unfold gTo; grind) _ _ hG ls (lv_sub hl [0, 1, 2, 3] rfl)
  · refine lv_iload_n hx hb dX0_go_12 rfl (lv_at hl 0 rfl) ?_
    refine n_if_le (by omega) hx hb (tgt := 22) dX0_go_13 (by decide) (fun h13 => ?_) (fun h13 => ?_)
    · refine lv_iload_n hx hb dX0_go_22 rfl (lv_at hl 3 rfl) ?_
      refine lv_iconst (v := nI 2) hx hb dX0_go_23 (by decide) ?_
      refine lv_icmp_ne hx hb (tgt := 36) dX0_go_24 (by decide) (fun h24 => ?_) (fun h24 => ?_)
      · exact J36 p0 (by unfold gTo; grind) _ _ hG ls (lv_sub hl [0, 1, 2, 3] rfl)
      · refine lv_iload_n hx hb dX0_go_27 rfl (lv_at hl 0 rfl) ?_
        refine lv_bipush (v := nI 9) hx hb dX0_go_28 (by decide) ?_
        refine n_icmp_ge (by omega) hx hb (tgt := 36) dX0_go_30 (by decide) (fun h30 => ?_) (fun h30 => ?_)
        · exact J36 p0 (by unfold gTo; grind) _ _ hG ls (lv_sub hl [0, 1, 2, 3] rfl)
        · refine lv_iinc (v := nI (p0 + 1)) (lv' := [(3, .int (nI (p0 + 1))), (0, .ref (ad 0)), (1, .int (nI 0)), (2, .int x)]) hx hb dX0_go_33 hl (k := 0) rfl (inc1 _) (by decide) rfl (fun ls hl => ?_)
          exact J36 (p0 + 1) (by unfold gTo; grind) _ _ hG ls (lv_sub hl [0, 1, 2, 3] rfl)
    · refine lv_iinc (v := nI (p0 - 1)) (lv' := [(3, .int (nI (p0 - 1))), (0, .ref (ad 0)), (1, .int (nI 0)), (2, .int x)]) hx hb dX0_go_16 hl (k := 0) rfl (dec1 (by omega)) (by decide) rfl (fun ls hl => ?_)
      refine lv_goto (tgt := 36) hx hb dX0_go_19 (by decide) ?_
      exact J36 (p0 - 1) (by unfold gTo; grind) _ _ hG ls (lv_sub hl [0, 1, 2, 3] rfl)

set_option maxHeartbeats 4000000 in
set_option maxRecDepth 100000 in
theorem mX0_go1 (l : Launch) (D : va_G) (ad : Nat → Nat) (ca : Nat → ClassId) (ar us sv : Nat → Nat) (d p0 p1 h0 h1 w0 w1 : Nat) (x : Int32) (mv : Nat) (hm : actsAs x mv) (hp : p0 ≤ 9 ∧ p1 ≤ 9) : XMv l yX0_go (ws_ yX0_go cX0_go 4 none) ({ frames := 0, cells := 0, slots := 0, locals := 0 }) D (gw ad ca) (gt ca) [.ref (ad 0), .int (nI 1), .int x] (ar, us, sv, d, p0, p1, h0, h1, w0, w1) (fun u => u = (ar, us, sv, d, p0, gGo p1 p0 mv, h0, h1, w0, w1)) := by
  refine xe_v (own := RX0) (by decide) rfl (Nat.le_of_ble_eq_true rfl) ?_
  intro p e s m below meth c A R args Q hR hC hret H locs hG ls hl
  obtain ⟨hx, hb, hml, hown, hts, hK, hA⟩ := id hC
  have hl : lv_has ls 4 [(0, .ref (ad 0)), (1, .int (nI 1)), (2, .int x)] := hl
  obtain ⟨hm1, hm2, hm3⟩ := hm
  have J36 : ∀ (t : Nat), (t = gTo p1 mv) → ∀ (H : Heap) (locs : List Loc), xS D (gw ad ca) A s (ar, us, sv, d, p0, p1, h0, h1, w0, w1) H locs → ∀ ls : Array Slot, lv_has ls 4 [(3, .int (nI t)), (0, .ref (ad 0)), (1, .int (nI 1)), (2, .int x)] → W p l e R s m args below meth c H locs 0 0 Q (F0 m 36 ls []) := by
    intro t ht H locs hG ls hl
    have ht9 : t ≤ 9 := by rw [ht]; exact gTo_le (by omega)
    refine lv_iload_n hx hb dX0_go_36 rfl (lv_at hl 0 rfl) ?_
    refine lv_aload_n hx hb dX0_go_37 rfl (lv_at hl 1 rfl) ?_
    refine g_f_pl hC hG dX0_go_38 ?_
    refine lv_iconst (v := nI 1) hx hb dX0_go_41 (by decide) ?_
    refine lv_iload_n hx hb dX0_go_42 rfl (lv_at hl 2 rfl) ?_
    refine n_sub (by decide) hx hb dX0_go_43 ?_
    refine n_as 0 rfl ?_
    refine g_l_p0 hC hG dX0_go_44 ?_
    refine n_icmp_eq (by omega) hx hb (tgt := 56) dX0_go_45 (by decide) (fun h45 => ?_) (fun h45 => ?_)
    · exact hret _ _ _ _ _ hG (by first | rw [gGo, ← ht, if_pos h45] | rw [gGo, ← ht, if_neg h45]) dX0_go_56
    · refine lv_aload_n hx hb dX0_go_48 rfl (lv_at hl 1 rfl) ?_
      refine g_f_pl hC hG dX0_go_49 ?_
      refine lv_iload_n hx hb dX0_go_52 rfl (lv_at hl 2 rfl) ?_
      refine lv_iload_n hx hb dX0_go_53 rfl (lv_at hl 0 rfl) ?_
      refine n_i2b (by omega) hx hb dX0_go_54 ?_
      refine g_s_p1 (by omega) hC hG dX0_go_55 (fun H locs hG => ?_)
      exact hret _ _ _ _ _ hG (by first | rw [gGo, ← ht, if_pos h45] | rw [gGo, ← ht, if_neg h45]) dX0_go_56
  refine lv_aload_n hx hb dX0_go_0 rfl (lv_at hl 0 rfl) ?_
  refine g_f_pl hC hG dX0_go_1 ?_
  refine lv_iload_n hx hb dX0_go_4 rfl (lv_at hl 1 rfl) ?_
  refine g_l_p1 hC hG dX0_go_5 ?_
  refine lv_istore_n (lv' := [(3, .int (nI p1)), (0, .ref (ad 0)), (1, .int (nI 1)), (2, .int x)]) hx hb dX0_go_6 rfl hl (by decide) rfl (fun ls hl => ?_)
  refine lv_iload_n hx hb dX0_go_7 rfl (lv_at hl 3 rfl) ?_
  refine lv_iconst (v := nI 1) hx hb dX0_go_8 (by decide) ?_
  refine lv_icmp_ne hx hb (tgt := 22) dX0_go_9 (by decide) (fun hq9 => ?_) (fun hq9 => ?_)
  · refine lv_iload_n hx hb dX0_go_22 rfl (lv_at hl 3 rfl) ?_
    refine lv_iconst (v := nI 2) hx hb dX0_go_23 (by decide) ?_
    refine lv_icmp_ne hx hb (tgt := 36) dX0_go_24 (by decide) (fun h24 => ?_) (fun h24 => ?_)
    · exact J36 p1 (by unfold gTo; grind) _ _ hG ls (lv_sub hl [0, 1, 2, 3] rfl)
    · refine lv_iload_n hx hb dX0_go_27 rfl (lv_at hl 0 rfl) ?_
      refine lv_bipush (v := nI 9) hx hb dX0_go_28 (by decide) ?_
      refine n_icmp_ge (by omega) hx hb (tgt := 36) dX0_go_30 (by decide) (fun h30 => ?_) (fun h30 => ?_)
      · exact J36 p1 (by unfold gTo; grind) _ _ hG ls (lv_sub hl [0, 1, 2, 3] rfl)
      · refine lv_iinc (v := nI (p1 + 1)) (lv' := [(3, .int (nI (p1 + 1))), (0, .ref (ad 0)), (1, .int (nI 1)), (2, .int x)]) hx hb dX0_go_33 hl (k := 0) rfl (inc1 _) (by decide) rfl (fun ls hl => ?_)
        exact J36 (p1 + 1) (by unfold gTo; grind) _ _ hG ls (lv_sub hl [0, 1, 2, 3] rfl)
  · refine lv_iload_n hx hb dX0_go_12 rfl (lv_at hl 0 rfl) ?_
    refine n_if_le (by omega) hx hb (tgt := 22) dX0_go_13 (by decide) (fun h13 => ?_) (fun h13 => ?_)
    · refine lv_iload_n hx hb dX0_go_22 rfl (lv_at hl 3 rfl) ?_
      refine lv_iconst (v := nI 2) hx hb dX0_go_23 (by decide) ?_
      refine lv_icmp_ne hx hb (tgt := 36) dX0_go_24 (by decide) (fun h24 => ?_) (fun h24 => ?_)
      · exact J36 p1 (by unfold gTo; grind) _ _ hG ls (lv_sub hl [0, 1, 2, 3] rfl)
      · refine lv_iload_n hx hb dX0_go_27 rfl (lv_at hl 0 rfl) ?_
        refine lv_bipush (v := nI 9) hx hb dX0_go_28 (by decide) ?_
        refine n_icmp_ge (by omega) hx hb (tgt := 36) dX0_go_30 (by decide) (fun h30 => ?_) (fun h30 => ?_)
        · exact J36 p1 (by unfold gTo; grind) _ _ hG ls (lv_sub hl [0, 1, 2, 3] rfl)
        · refine lv_iinc (v := nI (p1 + 1)) (lv' := [(3, .int (nI (p1 + 1))), (0, .ref (ad 0)), (1, .int (nI 1)), (2, .int x)]) hx hb dX0_go_33 hl (k := 0) rfl (inc1 _) (by decide) rfl (fun ls hl => ?_)
          exact J36 (p1 + 1) (by unfold gTo; grind) _ _ hG ls (lv_sub hl [0, 1, 2, 3] rfl)
    · refine lv_iinc (v := nI (p1 - 1)) (lv' := [(3, .int (nI (p1 - 1))), (0, .ref (ad 0)), (1, .int (nI 1)), (2, .int x)]) hx hb dX0_go_16 hl (k := 0) rfl (dec1 (by omega)) (by decide) rfl (fun ls hl => ?_)
      refine lv_goto (tgt := 36) hx hb dX0_go_19 (by decide) ?_
      exact J36 (p1 - 1) (by unfold gTo; grind) _ _ hG ls (lv_sub hl [0, 1, 2, 3] rfl)

set_option maxHeartbeats 4000000 in
set_option maxRecDepth 100000 in
theorem mX0_strike0 (l : Launch) (D : va_G) (ad : Nat → Nat) (ca : Nat → ClassId) (ar us sv : Nat → Nat) (d p0 p1 h0 h1 w0 w1 : Nat) (x : Int32) (mv nr : Nat) (hm : actsAs x mv) (hn : nr < 2) (hp : h0 ≤ 9 ∧ h1 ≤ 9) : XMv l yX0_strike (ws_ yX0_strike cX0_strike 4 none) ({ frames := 0, cells := 0, slots := 0, locals := 0 }) D (gw ad ca) (gt ca) [.ref (ad 0), .int (nI 0), .int x, .int (nI nr)] (ar, us, sv, d, p0, p1, h0, h1, w0, w1) (fun u => u = (ar, us, sv, d, p0, p1, h0, gHit nr h1 mv, gPau w0 mv, w1)) := by
  refine xe_v (own := RX0) (by decide) rfl (Nat.le_of_ble_eq_true rfl) ?_
  intro p e s m below meth c A R args Q hR hC hret H locs hG ls hl
  obtain ⟨hx, hb, hml, hown, hts, hK, hA⟩ := id hC
  have hl : lv_has ls 4 [(0, .ref (ad 0)), (1, .int (nI 0)), (2, .int x), (3, .int (nI nr))] := hl
  obtain ⟨hm1, hm2, hm3⟩ := hm
  refine lv_iload_n hx hb dX0_strike_0 rfl (lv_at hl 2 rfl) ?_
  refine lv_iconst (v := nI 3) hx hb dX0_strike_1 (by decide) ?_
  refine lv_icmp_ne hx hb (tgt := 57) dX0_strike_2 (by decide) (fun hq2 => ?_) (fun hq2 => ?_)
  · exact hret _ _ _ _ _ hG (by unfold gPau gHit; grind) dX0_strike_57
  · refine lv_aload_n hx hb dX0_strike_5 rfl (lv_at hl 0 rfl) ?_
    refine g_f_pa hC hG dX0_strike_6 ?_
    refine lv_iload_n hx hb dX0_strike_9 rfl (lv_at hl 1 rfl) ?_
    refine lv_iconst (v := nI 2) hx hb dX0_strike_10 (by decide) ?_
    refine g_s_w0 (by omega) hC hG dX0_strike_11 (fun H locs hG => ?_)
    refine lv_aload_n hx hb dX0_strike_12 rfl (lv_at hl 0 rfl) ?_
    refine g_f_po hC hG dX0_strike_13 ?_
    refine lv_iconst (v := nI 1) hx hb dX0_strike_16 (by decide) ?_
    refine lv_iload_n hx hb dX0_strike_17 rfl (lv_at hl 1 rfl) ?_
    refine n_sub (by decide) hx hb dX0_strike_18 ?_
    refine n_as 1 rfl ?_
    refine lv_iload_n hx hb dX0_strike_19 rfl (lv_at hl 3 rfl) ?_
    refine n_if_eq (by omega) hx hb (tgt := 47) dX0_strike_20 (by decide) (fun h20 => ?_) (fun h20 => ?_)
    · refine lv_aload_n hx hb dX0_strike_47 rfl (lv_at hl 0 rfl) ?_
      refine g_f_po hC hG dX0_strike_48 ?_
      refine lv_iconst (v := nI 1) hx hb dX0_strike_51 (by decide) ?_
      refine lv_iload_n hx hb dX0_strike_52 rfl (lv_at hl 1 rfl) ?_
      refine n_sub (by decide) hx hb dX0_strike_53 ?_
      refine n_as 1 rfl ?_
      refine g_l_h1 hC hG dX0_strike_54 ?_
      refine n_i2b (by omega) hx hb dX0_strike_55 ?_
      refine g_s_h1 (by omega) hC hG dX0_strike_56 (fun H locs hG => ?_)
      exact hret _ _ _ _ _ hG (by unfold gPau gHit; grind) dX0_strike_57
    · refine lv_aload_n hx hb dX0_strike_23 rfl (lv_at hl 0 rfl) ?_
      refine g_f_po hC hG dX0_strike_24 ?_
      refine lv_iconst (v := nI 1) hx hb dX0_strike_27 (by decide) ?_
      refine lv_iload_n hx hb dX0_strike_28 rfl (lv_at hl 1 rfl) ?_
      refine n_sub (by decide) hx hb dX0_strike_29 ?_
      refine n_as 1 rfl ?_
      refine g_l_h1 hC hG dX0_strike_30 ?_
      refine n_if_le (by omega) hx hb (tgt := 47) dX0_strike_31 (by decide) (fun h31 => ?_) (fun h31 => ?_)
      · refine lv_aload_n hx hb dX0_strike_47 rfl (lv_at hl 0 rfl) ?_
        refine g_f_po hC hG dX0_strike_48 ?_
        refine lv_iconst (v := nI 1) hx hb dX0_strike_51 (by decide) ?_
        refine lv_iload_n hx hb dX0_strike_52 rfl (lv_at hl 1 rfl) ?_
        refine n_sub (by decide) hx hb dX0_strike_53 ?_
        refine n_as 1 rfl ?_
        refine g_l_h1 hC hG dX0_strike_54 ?_
        refine n_i2b (by omega) hx hb dX0_strike_55 ?_
        refine g_s_h1 (by omega) hC hG dX0_strike_56 (fun H locs hG => ?_)
        exact hret _ _ _ _ _ hG (by unfold gPau gHit; grind) dX0_strike_57
      · refine lv_aload_n hx hb dX0_strike_34 rfl (lv_at hl 0 rfl) ?_
        refine g_f_po hC hG dX0_strike_35 ?_
        refine lv_iconst (v := nI 1) hx hb dX0_strike_38 (by decide) ?_
        refine lv_iload_n hx hb dX0_strike_39 rfl (lv_at hl 1 rfl) ?_
        refine n_sub (by decide) hx hb dX0_strike_40 ?_
        refine n_as 1 rfl ?_
        refine g_l_h1 hC hG dX0_strike_41 ?_
        refine lv_iconst (v := nI 1) hx hb dX0_strike_42 (by decide) ?_
        refine n_sub (by omega) hx hb dX0_strike_43 ?_
        refine lv_goto (tgt := 55) hx hb dX0_strike_44 (by decide) ?_
        refine n_i2b (by omega) hx hb dX0_strike_55 ?_
        refine g_s_h1 (by omega) hC hG dX0_strike_56 (fun H locs hG => ?_)
        exact hret _ _ _ _ _ hG (by unfold gPau gHit; grind) dX0_strike_57

set_option maxHeartbeats 4000000 in
set_option maxRecDepth 100000 in
theorem mX0_strike1 (l : Launch) (D : va_G) (ad : Nat → Nat) (ca : Nat → ClassId) (ar us sv : Nat → Nat) (d p0 p1 h0 h1 w0 w1 : Nat) (x : Int32) (mv nr : Nat) (hm : actsAs x mv) (hn : nr < 2) (hp : h0 ≤ 9 ∧ h1 ≤ 9) : XMv l yX0_strike (ws_ yX0_strike cX0_strike 4 none) ({ frames := 0, cells := 0, slots := 0, locals := 0 }) D (gw ad ca) (gt ca) [.ref (ad 0), .int (nI 1), .int x, .int (nI nr)] (ar, us, sv, d, p0, p1, h0, h1, w0, w1) (fun u => u = (ar, us, sv, d, p0, p1, gHit nr h0 mv, h1, w0, gPau w1 mv)) := by
  refine xe_v (own := RX0) (by decide) rfl (Nat.le_of_ble_eq_true rfl) ?_
  intro p e s m below meth c A R args Q hR hC hret H locs hG ls hl
  obtain ⟨hx, hb, hml, hown, hts, hK, hA⟩ := id hC
  have hl : lv_has ls 4 [(0, .ref (ad 0)), (1, .int (nI 1)), (2, .int x), (3, .int (nI nr))] := hl
  obtain ⟨hm1, hm2, hm3⟩ := hm
  refine lv_iload_n hx hb dX0_strike_0 rfl (lv_at hl 2 rfl) ?_
  refine lv_iconst (v := nI 3) hx hb dX0_strike_1 (by decide) ?_
  refine lv_icmp_ne hx hb (tgt := 57) dX0_strike_2 (by decide) (fun hq2 => ?_) (fun hq2 => ?_)
  · exact hret _ _ _ _ _ hG (by unfold gPau gHit; grind) dX0_strike_57
  · refine lv_aload_n hx hb dX0_strike_5 rfl (lv_at hl 0 rfl) ?_
    refine g_f_pa hC hG dX0_strike_6 ?_
    refine lv_iload_n hx hb dX0_strike_9 rfl (lv_at hl 1 rfl) ?_
    refine lv_iconst (v := nI 2) hx hb dX0_strike_10 (by decide) ?_
    refine g_s_w1 (by omega) hC hG dX0_strike_11 (fun H locs hG => ?_)
    refine lv_aload_n hx hb dX0_strike_12 rfl (lv_at hl 0 rfl) ?_
    refine g_f_po hC hG dX0_strike_13 ?_
    refine lv_iconst (v := nI 1) hx hb dX0_strike_16 (by decide) ?_
    refine lv_iload_n hx hb dX0_strike_17 rfl (lv_at hl 1 rfl) ?_
    refine n_sub (by decide) hx hb dX0_strike_18 ?_
    refine n_as 0 rfl ?_
    refine lv_iload_n hx hb dX0_strike_19 rfl (lv_at hl 3 rfl) ?_
    refine n_if_eq (by omega) hx hb (tgt := 47) dX0_strike_20 (by decide) (fun h20 => ?_) (fun h20 => ?_)
    · refine lv_aload_n hx hb dX0_strike_47 rfl (lv_at hl 0 rfl) ?_
      refine g_f_po hC hG dX0_strike_48 ?_
      refine lv_iconst (v := nI 1) hx hb dX0_strike_51 (by decide) ?_
      refine lv_iload_n hx hb dX0_strike_52 rfl (lv_at hl 1 rfl) ?_
      refine n_sub (by decide) hx hb dX0_strike_53 ?_
      refine n_as 0 rfl ?_
      refine g_l_h0 hC hG dX0_strike_54 ?_
      refine n_i2b (by omega) hx hb dX0_strike_55 ?_
      refine g_s_h0 (by omega) hC hG dX0_strike_56 (fun H locs hG => ?_)
      exact hret _ _ _ _ _ hG (by unfold gPau gHit; grind) dX0_strike_57
    · refine lv_aload_n hx hb dX0_strike_23 rfl (lv_at hl 0 rfl) ?_
      refine g_f_po hC hG dX0_strike_24 ?_
      refine lv_iconst (v := nI 1) hx hb dX0_strike_27 (by decide) ?_
      refine lv_iload_n hx hb dX0_strike_28 rfl (lv_at hl 1 rfl) ?_
      refine n_sub (by decide) hx hb dX0_strike_29 ?_
      refine n_as 0 rfl ?_
      refine g_l_h0 hC hG dX0_strike_30 ?_
      refine n_if_le (by omega) hx hb (tgt := 47) dX0_strike_31 (by decide) (fun h31 => ?_) (fun h31 => ?_)
      · refine lv_aload_n hx hb dX0_strike_47 rfl (lv_at hl 0 rfl) ?_
        refine g_f_po hC hG dX0_strike_48 ?_
        refine lv_iconst (v := nI 1) hx hb dX0_strike_51 (by decide) ?_
        refine lv_iload_n hx hb dX0_strike_52 rfl (lv_at hl 1 rfl) ?_
        refine n_sub (by decide) hx hb dX0_strike_53 ?_
        refine n_as 0 rfl ?_
        refine g_l_h0 hC hG dX0_strike_54 ?_
        refine n_i2b (by omega) hx hb dX0_strike_55 ?_
        refine g_s_h0 (by omega) hC hG dX0_strike_56 (fun H locs hG => ?_)
        exact hret _ _ _ _ _ hG (by unfold gPau gHit; grind) dX0_strike_57
      · refine lv_aload_n hx hb dX0_strike_34 rfl (lv_at hl 0 rfl) ?_
        refine g_f_po hC hG dX0_strike_35 ?_
        refine lv_iconst (v := nI 1) hx hb dX0_strike_38 (by decide) ?_
        refine lv_iload_n hx hb dX0_strike_39 rfl (lv_at hl 1 rfl) ?_
        refine n_sub (by decide) hx hb dX0_strike_40 ?_
        refine n_as 0 rfl ?_
        refine g_l_h0 hC hG dX0_strike_41 ?_
        refine lv_iconst (v := nI 1) hx hb dX0_strike_42 (by decide) ?_
        refine n_sub (by omega) hx hb dX0_strike_43 ?_
        refine lv_goto (tgt := 55) hx hb dX0_strike_44 (by decide) ?_
        refine n_i2b (by omega) hx hb dX0_strike_55 ?_
        refine g_s_h0 (by omega) hC hG dX0_strike_56 (fun H locs hG => ?_)
        exact hret _ _ _ _ _ hG (by unfold gPau gHit; grind) dX0_strike_57

set_option maxHeartbeats 4000000 in
set_option maxRecDepth 100000 in
theorem mX0_guess (l : Launch) (D : va_G) (ad : Nat → Nat) (ca : Nat → ClassId) (ar us sv : Nat → Nat) (d p0 p1 h0 h1 w0 w1 : Nat) (j f : Nat) (hj : j < 2) (hf : f < 40) (hu : ∀ j, j < 80 → us j < 4) : XMi l yX0_guess (ws_ yX0_guess cX0_guess 4 (some .int)) ({ frames := 0, cells := 0, slots := 0, locals := 0 }) D (gw ad ca) (gt ca) [.ref (ad 0), .int (nI j), .int (nI f)] (ar, us, sv, d, p0, p1, h0, h1, w0, w1) (fun r u => u = (ar, us, sv, d, p0, p1, h0, h1, w0, w1) ∧ r = nI (if f = 0 then 0 else gs (us (40 * j + f - 1)))) := by
  refine xe_i (own := RX0) (by decide) rfl (Nat.le_of_ble_eq_true rfl) ?_
  intro p e s m below meth c A R args Q hR hC hret H locs hG ls hl
  obtain ⟨hx, hb, hml, hown, hts, hK, hA⟩ := id hC
  have hl : lv_has ls 4 [(0, .ref (ad 0)), (1, .int (nI j)), (2, .int (nI f))] := hl
  refine lv_iload_n hx hb dX0_guess_0 rfl (lv_at hl 2 rfl) ?_
  refine n_if_ne (by omega) hx hb (tgt := 8) dX0_guess_1 (by decide) (fun hq1 => ?_) (fun hq1 => ?_)
  · refine lv_aload_n hx hb dX0_guess_8 rfl (lv_at hl 0 rfl) ?_
    refine g_f_us hC hG dX0_guess_9 ?_
    refine lv_iload_n hx hb dX0_guess_12 rfl (lv_at hl 1 rfl) ?_
    refine lv_bipush (v := nI 40) hx hb dX0_guess_13 (by decide) ?_
    refine n_mul hx hb dX0_guess_15 ?_
    refine n_as (40 * j) (Nat.mul_comm _ _) ?_
    refine lv_iload_n hx hb dX0_guess_16 rfl (lv_at hl 2 rfl) ?_
    refine n_add hx hb dX0_guess_17 ?_
    refine lv_iconst (v := nI 1) hx hb dX0_guess_18 (by decide) ?_
    refine n_sub (by omega) hx hb dX0_guess_19 ?_
    have hu1 := hu (40 * j + f - 1) (by omega)
    refine g_l_us (by omega) hC hG dX0_guess_20 ?_
    refine lv_istore_n (lv' := [(3, .int (nI (us (((40 * j) + f) - 1)))), (0, .ref (ad 0)), (1, .int (nI j)), (2, .int (nI f))]) hx hb dX0_guess_21 rfl hl (by decide) rfl (fun ls hl => ?_)
    refine lv_iload_n hx hb dX0_guess_22 rfl (lv_at hl 0 rfl) ?_
    refine lv_iconst (v := nI 3) hx hb dX0_guess_23 (by decide) ?_
    refine n_icmp_ne (by omega) hx hb (tgt := 31) dX0_guess_24 (by decide) (fun h24 => ?_) (fun h24 => ?_)
    · refine lv_iload_n hx hb dX0_guess_31 rfl (lv_at hl 0 rfl) ?_
      exact hret _ _ _ _ _ _ hG (⟨rfl, by unfold gs; grind⟩) rfl dX0_guess_32
    · refine lv_iconst (v := nI 0) hx hb dX0_guess_27 (by decide) ?_
      refine lv_goto (tgt := 32) hx hb dX0_guess_28 (by decide) ?_
      exact hret _ _ _ _ _ _ hG (⟨rfl, by unfold gs; grind⟩) rfl dX0_guess_32
  · refine lv_iconst (v := nI 0) hx hb dX0_guess_4 (by decide) ?_
    refine lv_goto (tgt := 21) hx hb dX0_guess_5 (by decide) ?_
    refine lv_istore_n (lv' := [(3, .int (nI 0)), (0, .ref (ad 0)), (1, .int (nI j)), (2, .int (nI f))]) hx hb dX0_guess_21 rfl hl (by decide) rfl (fun ls hl => ?_)
    refine lv_iload_n hx hb dX0_guess_22 rfl (lv_at hl 0 rfl) ?_
    refine lv_iconst (v := nI 3) hx hb dX0_guess_23 (by decide) ?_
    refine n_icmp_ne (by omega) hx hb (tgt := 31) dX0_guess_24 (by decide) (fun h24 => ?_) (fun h24 => absurd h24 (by omega))
    refine lv_iload_n hx hb dX0_guess_31 rfl (lv_at hl 0 rfl) ?_
    exact hret _ _ _ _ _ _ hG (⟨rfl, by unfold gs; grind⟩) rfl dX0_guess_32

theorem mX0_loadF (l : Launch) (D : va_G) (ad : Nat → Nat) (ca : Nat → ClassId) (ar us sv : Nat → Nat) (d p0 p1 h0 h1 w0 w1 : Nat) (y : Fi) (hy : fOk y) : XMv l yX0_load (ws_ yX0_load cX0_load 2 none) ({ frames := 0, cells := 0, slots := 0, locals := 0 }) D (gw ad ca) (gt ca) [.ref (ad 0), .int (nI (pic y))] (ar, us, sv, d, p0, p1, h0, h1, w0, w1) (fun u => u = (ar, us, sv, d, y.1, y.2.1, y.2.2.1, y.2.2.2.1, y.2.2.2.2.1, y.2.2.2.2.2)) :=
  mX0_load l D ad ca ar us sv d p0 p1 h0 h1 w0 w1 y.1 y.2.1 y.2.2.1 y.2.2.2.1 y.2.2.2.2.1 y.2.2.2.2.2 hy
theorem mX0_isOverF (l : Launch) (D : va_G) (ad : Nat → Nat) (ca : Nat → ClassId) (ar us sv : Nat → Nat) (d p0 p1 h0 h1 w0 w1 : Nat) (y : Fi) (hy : fOk y) : XMi l yX0_isOver (ws_ yX0_isOver cX0_isOver 1 (some .boolean)) ({ frames := 0, cells := 0, slots := 0, locals := 0 }) D (gw ad ca) (gt ca) [.int (nI (pic y))] (ar, us, sv, d, p0, p1, h0, h1, w0, w1) (fun r u => u = (ar, us, sv, d, p0, p1, h0, h1, w0, w1) ∧ ((r = nI 1 ∧ (y.2.2.1 = 0 ∨ y.2.2.2.1 = 0)) ∨ (r = nI 0 ∧ ¬ (y.2.2.1 = 0 ∨ y.2.2.2.1 = 0)))) :=
  mX0_isOver l D ad ca ar us sv d p0 p1 h0 h1 w0 w1 y.1 y.2.1 y.2.2.1 y.2.2.2.1 y.2.2.2.2.1 y.2.2.2.2.2 hy
end
section
/-! X0: step -/

set_option maxHeartbeats 4000000 in
set_option maxRecDepth 100000 in
theorem mX0_step (l : Launch) (D : va_G) (ad : Nat → Nat) (ca : Nat → ClassId) (ar us sv : Nat → Nat) (d p0 p1 h0 h1 w0 w1 : Nat) (y : Fi) (hy : fOk y) (m0 m1 : Nat) (hm0 : m0 < 4) (hm1 : m1 < 4) : XMi l yX0_step (ws_ yX0_step cX0_step 8 (some .int)) ({ frames := 1, cells := 0, slots := 0, locals := 23 }) D (gw ad ca) (gt ca) [.ref (ad 0), .int (nI (pic y)), .int (nI m0), .int (nI m1)] (ar, us, sv, d, p0, p1, h0, h1, w0, w1) (fun r u => (∃ z : Fi, u = (ar, us, sv, d, z)) ∧ r = nI (pic (fNext y m0 m1))) := by
  refine xe_i (own := RX0) (by decide) rfl (Nat.le_of_ble_eq_true rfl) ?_
  intro p e s m below meth c A R args Q hR hC hret H locs hG ls hl
  obtain ⟨hx, hb, hml, hown, hts, hK, hA⟩ := id hC
  skip
  obtain ⟨y0, y1, y2, y3, y4, y5⟩ := y
  have hy9 := hy
  unfold fOk at hy9
  simp only [] at hy9
  have hl : lv_has ls 8 [(0, .ref (ad 0)), (1, .int (nI (pic (y0, y1, y2, y3, y4, y5)))), (2, .int (nI m0)), (3, .int (nI m1))] := hl
  have hplt := pic_lt hy
  have J148 : ∀ (x : Int32) (x1 : Int32) (v : Nat) (v1 : Nat) (a : Nat) (b : Nat) (nr : Nat), (¬ (y2 = 0 ∨ y3 = 0)) → (actsAs x (gEff y4 m0)) → (actsAs x1 (gEff y5 m1)) → (v = y4 - 1) → (v1 = y5 - 1) → (a = gGo y0 y1 (gEff y4 m0)) → (b = gGo y1 a (gEff y5 m1)) → (nr = gNear a b) → ∀ (H : Heap) (locs : List Loc), xS D (gw ad ca) A s (ar, us, sv, d, a, b, y2, y3, v, v1) H locs → ∀ ls : Array Slot, lv_has ls 8 [(5, .int x1), (4, .int x), (0, .ref (ad 0)), (1, .int (nI (pic (y0, y1, y2, y3, y4, y5)))), (2, .int (nI m0)), (3, .int (nI m1))] → W p l e R s m args below meth c H locs 0 0 Q (F0 m 148 ls [.int (nI nr)]) := by
    intro x x1 v v1 a b nr ho hx0 hx1 hv hv1 ha hb1 hnr H locs hG ls hl
    have hnr2 : nr < 2 := by rw [hnr]; exact gNear_lt _ _
    refine lv_istore (lv' := [(7, .int (nI nr)), (5, .int x1), (4, .int x), (0, .ref (ad 0)), (1, .int (nI (pic (y0, y1, y2, y3, y4, y5)))), (2, .int (nI m0)), (3, .int (nI m1))]) hx hb dX0_step_148 hl (by decide) rfl (fun ls hl => ?_)
    refine lv_aload_n hx hb dX0_step_150 rfl (lv_at hl 3 rfl) ?_
    refine lv_iconst (v := nI 0) hx hb dX0_step_151 (by decide) ?_
    refine lv_iload hx hb dX0_step_152 (lv_at hl 2 rfl) ?_
    refine lv_iload hx hb dX0_step_154 (lv_at hl 0 rfl) ?_
    refine xc_vv (n := 3) (rest := []) (ci := 0) (q0 := 0) hC hG (mX0_strike0 l D ad ca ar us sv d a b y2 y3 v v1 x (gEff y4 m0) nr hx0 hnr2 ⟨by omega, by omega⟩) (lw_V q48 q50 qs4 q18 q51) (by decide +kernel) rfl rfl (by rw [hR]; exact ⟨Nat.le_of_ble_eq_true rfl, Nat.le_of_ble_eq_true rfl⟩) rfl rfl rfl hl.1 rfl (Nat.le_of_ble_eq_true rfl) dX0_step_156 (fun u H locs hp hG => ?_)
    obtain rfl := hp
    refine lv_aload_n hx hb dX0_step_159 rfl (lv_at hl 3 rfl) ?_
    refine lv_iconst (v := nI 1) hx hb dX0_step_160 (by decide) ?_
    refine lv_iload hx hb dX0_step_161 (lv_at hl 1 rfl) ?_
    refine lv_iload hx hb dX0_step_163 (lv_at hl 0 rfl) ?_
    refine xc_vv (n := 3) (rest := []) (ci := 0) (q0 := 0) hC hG (mX0_strike1 l D ad ca ar us sv d a b y2 ((gHit nr y3 (gEff y4 m0))) ((gPau v (gEff y4 m0))) v1 x1 (gEff y5 m1) nr hx1 hnr2 ⟨by omega, gHit_le (by omega)⟩) (lw_V q48 q50 qs4 q18 q51) (by decide +kernel) rfl rfl (by rw [hR]; exact ⟨Nat.le_of_ble_eq_true rfl, Nat.le_of_ble_eq_true rfl⟩) rfl rfl rfl hl.1 rfl (Nat.le_of_ble_eq_true rfl) dX0_step_165 (fun u H locs hp hG => ?_)
    obtain rfl := hp
    refine lv_aload_n hx hb dX0_step_168 rfl (lv_at hl 3 rfl) ?_
    refine xc_vi (n := 0) (rest := []) (ci := 0) (q0 := 0) hC hG (mX0_pack l D ad ca ar us sv d a b ((gHit nr y2 (gEff y5 m1))) ((gHit nr y3 (gEff y4 m0))) ((gPau v (gEff y4 m0))) ((gPau v1 (gEff y5 m1))) ) (lw_V q52 q54 qs5 q18 q55) (by decide +kernel) rfl rfl (by rw [hR]; exact ⟨Nat.le_of_ble_eq_true rfl, Nat.le_of_ble_eq_true rfl⟩) rfl rfl rfl hl.1 rfl (Nat.le_of_ble_eq_true rfl) dX0_step_169 (fun r u H locs hp hG => ?_)
    obtain ⟨rfl, rfl⟩ := hp
    exact hret _ _ _ _ _ _ hG (⟨⟨_, rfl⟩, by rw [fNext, if_neg ho]; subst ha hb1 hnr hv hv1; rfl⟩) rfl dX0_step_172
  have J116 : ∀ (x : Int32) (x1 : Int32) (v : Nat) (v1 : Nat) (a : Nat) (b : Nat), (¬ (y2 = 0 ∨ y3 = 0)) → (actsAs x (gEff y4 m0)) → (actsAs x1 (gEff y5 m1)) → (v = y4 - 1) → (v1 = y5 - 1) → (a = gGo y0 y1 (gEff y4 m0)) → (b = gGo y1 a (gEff y5 m1)) → ∀ (H : Heap) (locs : List Loc), xS D (gw ad ca) A s (ar, us, sv, d, a, b, y2, y3, v, v1) H locs → ∀ ls : Array Slot, lv_has ls 8 [(5, .int x1), (4, .int x), (0, .ref (ad 0)), (1, .int (nI (pic (y0, y1, y2, y3, y4, y5)))), (2, .int (nI m0)), (3, .int (nI m1))] → W p l e R s m args below meth c H locs 0 0 Q (F0 m 116 ls []) := by
    intro x x1 v v1 a b ho hx0 hx1 hv hv1 ha hb1 H locs hG ls hl
    have ha9 : a ≤ 9 := by rw [ha]; exact gGo_le (by omega)
    have hb9 : b ≤ 9 := by rw [hb1]; exact gGo_le (by omega)
    refine lv_aload_n hx hb dX0_step_116 rfl (lv_at hl 2 rfl) ?_
    refine g_f_pl hC hG dX0_step_117 ?_
    refine lv_iconst (v := nI 0) hx hb dX0_step_120 (by decide) ?_
    refine g_l_p0 hC hG dX0_step_121 ?_
    refine lv_aload_n hx hb dX0_step_122 rfl (lv_at hl 2 rfl) ?_
    refine g_f_pl hC hG dX0_step_123 ?_
    refine lv_iconst (v := nI 1) hx hb dX0_step_126 (by decide) ?_
    refine g_l_p1 hC hG dX0_step_127 ?_
    refine lv_isub hx hb dX0_step_128 ?_
    refine lv_istore (lv' := [(6, .int (nI a - nI b)), (5, .int x1), (4, .int x), (0, .ref (ad 0)), (1, .int (nI (pic (y0, y1, y2, y3, y4, y5)))), (2, .int (nI m0)), (3, .int (nI m1))]) hx hb dX0_step_129 hl (by decide) rfl (fun ls hl => ?_)
    refine lv_iload hx hb dX0_step_131 (lv_at hl 0 rfl) ?_
    refine lv_iconst (v := (-1)) hx hb dX0_step_133 (by decide) ?_
    refine lv_icmp_lt hx hb (tgt := 147) dX0_step_134 (by decide) (fun h134 => ?_) (fun h134 => ?_)
    · rw [near_lt ha9 hb9] at h134
      refine lv_iconst (v := nI 0) hx hb dX0_step_147 (by decide) ?_
      exact J148 x x1 v v1 a b 0 ho hx0 hx1 hv hv1 ha hb1 (by unfold gNear; grind) _ _ hG ls (lv_sub hl [1, 2, 3, 4, 5, 6] rfl)
    · rw [near_lt ha9 hb9] at h134
      refine lv_iload hx hb dX0_step_137 (lv_at hl 0 rfl) ?_
      refine lv_iconst (v := nI 1) hx hb dX0_step_139 (by decide) ?_
      refine lv_icmp_gt hx hb (tgt := 147) dX0_step_140 (by decide) (fun h140 => ?_) (fun h140 => ?_)
      · rw [near_gt ha9 hb9] at h140
        refine lv_iconst (v := nI 0) hx hb dX0_step_147 (by decide) ?_
        exact J148 x x1 v v1 a b 0 ho hx0 hx1 hv hv1 ha hb1 (by unfold gNear; grind) _ _ hG ls (lv_sub hl [1, 2, 3, 4, 5, 6] rfl)
      · rw [near_gt ha9 hb9] at h140
        refine lv_iconst (v := nI 1) hx hb dX0_step_143 (by decide) ?_
        refine lv_goto (tgt := 148) hx hb dX0_step_144 (by decide) ?_
        exact J148 x x1 v v1 a b 1 ho hx0 hx1 hv hv1 ha hb1 (by unfold gNear; grind) _ _ hG ls (lv_sub hl [1, 2, 3, 4, 5, 6] rfl)
  have J100 : ∀ (x : Int32) (x1 : Int32) (v : Nat) (v1 : Nat), (¬ (y2 = 0 ∨ y3 = 0)) → (actsAs x (gEff y4 m0)) → (actsAs x1 (gEff y5 m1)) → (v = y4 - 1) → (v1 = y5 - 1) → ∀ (H : Heap) (locs : List Loc), xS D (gw ad ca) A s (ar, us, sv, d, y0, y1, y2, y3, v, y5) H locs → ∀ ls : Array Slot, lv_has ls 8 [(5, .int x1), (4, .int x), (0, .ref (ad 0)), (1, .int (nI (pic (y0, y1, y2, y3, y4, y5)))), (2, .int (nI m0)), (3, .int (nI m1))] → W p l e R s m args below meth c H locs 0 0 Q (F0 m 100 ls [.int (nI v1), .int (nI 1), .ref (ad 6)]) := by
    intro x x1 v v1 ho hx0 hx1 hv hv1 H locs hG ls hl
    refine n_i2b (by omega) hx hb dX0_step_100 ?_
    refine g_s_w1 (by omega) hC hG dX0_step_101 (fun H locs hG => ?_)
    refine lv_aload_n hx hb dX0_step_102 rfl (lv_at hl 2 rfl) ?_
    refine lv_iconst (v := nI 0) hx hb dX0_step_103 (by decide) ?_
    refine lv_iload hx hb dX0_step_104 (lv_at hl 1 rfl) ?_
    refine xc_vv (n := 2) (rest := []) (ci := 0) (q0 := 0) hC hG (mX0_go0 l D ad ca ar us sv d y0 y1 y2 y3 v v1 x (gEff y4 m0) hx0 ⟨by omega, by omega⟩) (lw_V q44 q46 qs3 q18 q47) (by decide +kernel) rfl rfl (by rw [hR]; exact ⟨Nat.le_of_ble_eq_true rfl, Nat.le_of_ble_eq_true rfl⟩) rfl rfl rfl hl.1 rfl (Nat.le_of_ble_eq_true rfl) dX0_step_106 (fun u H locs hp hG => ?_)
    obtain rfl := hp
    refine lv_aload_n hx hb dX0_step_109 rfl (lv_at hl 2 rfl) ?_
    refine lv_iconst (v := nI 1) hx hb dX0_step_110 (by decide) ?_
    refine lv_iload hx hb dX0_step_111 (lv_at hl 0 rfl) ?_
    refine xc_vv (n := 2) (rest := []) (ci := 0) (q0 := 0) hC hG (mX0_go1 l D ad ca ar us sv d ((gGo y0 y1 (gEff y4 m0))) y1 y2 y3 v v1 x1 (gEff y5 m1) hx1 ⟨gGo_le (by omega), by omega⟩) (lw_V q44 q46 qs3 q18 q47) (by decide +kernel) rfl rfl (by rw [hR]; exact ⟨Nat.le_of_ble_eq_true rfl, Nat.le_of_ble_eq_true rfl⟩) rfl rfl rfl hl.1 rfl (Nat.le_of_ble_eq_true rfl) dX0_step_113 (fun u H locs hp hG => ?_)
    obtain rfl := hp
    exact J116 x x1 v v1 ((gGo y0 y1 (gEff y4 m0))) ((gGo y1 (gGo y0 y1 (gEff y4 m0)) (gEff y5 m1))) ho hx0 hx1 hv hv1 rfl rfl _ _ hG ls (lv_sub hl [0, 1, 2, 3, 4, 5] rfl)
  have J72 : ∀ (x : Int32) (x1 : Int32) (v : Nat), (¬ (y2 = 0 ∨ y3 = 0)) → (actsAs x (gEff y4 m0)) → (actsAs x1 (gEff y5 m1)) → (v = y4 - 1) → ∀ (H : Heap) (locs : List Loc), xS D (gw ad ca) A s (ar, us, sv, d, y0, y1, y2, y3, y4, y5) H locs → ∀ ls : Array Slot, lv_has ls 8 [(5, .int x1), (4, .int x), (0, .ref (ad 0)), (1, .int (nI (pic (y0, y1, y2, y3, y4, y5)))), (2, .int (nI m0)), (3, .int (nI m1))] → W p l e R s m args below meth c H locs 0 0 Q (F0 m 72 ls [.int (nI v), .int (nI 0), .ref (ad 6)]) := by
    intro x x1 v ho hx0 hx1 hv H locs hG ls hl
    refine n_i2b (by omega) hx hb dX0_step_72 ?_
    refine g_s_w0 (by omega) hC hG dX0_step_73 (fun H locs hG => ?_)
    refine lv_aload_n hx hb dX0_step_74 rfl (lv_at hl 2 rfl) ?_
    refine g_f_pa hC hG dX0_step_75 ?_
    refine lv_iconst (v := nI 1) hx hb dX0_step_78 (by decide) ?_
    refine lv_aload_n hx hb dX0_step_79 rfl (lv_at hl 2 rfl) ?_
    refine g_f_pa hC hG dX0_step_80 ?_
    refine lv_iconst (v := nI 1) hx hb dX0_step_83 (by decide) ?_
    refine g_l_w1 hC hG dX0_step_84 ?_
    refine n_if_le (by omega) hx hb (tgt := 99) dX0_step_85 (by decide) (fun h85 => ?_) (fun h85 => ?_)
    · refine lv_iconst (v := nI 0) hx hb dX0_step_99 (by decide) ?_
      exact J100 x x1 v 0 ho hx0 hx1 hv (by omega) _ _ hG ls (lv_sub hl [0, 1, 2, 3, 4, 5] rfl)
    · refine lv_aload_n hx hb dX0_step_88 rfl (lv_at hl 2 rfl) ?_
      refine g_f_pa hC hG dX0_step_89 ?_
      refine lv_iconst (v := nI 1) hx hb dX0_step_92 (by decide) ?_
      refine g_l_w1 hC hG dX0_step_93 ?_
      refine lv_iconst (v := nI 1) hx hb dX0_step_94 (by decide) ?_
      refine n_sub (by omega) hx hb dX0_step_95 ?_
      refine lv_goto (tgt := 100) hx hb dX0_step_96 (by decide) ?_
      exact J100 x x1 v (y5 - 1) ho hx0 hx1 hv (by omega) _ _ hG ls (lv_sub hl [0, 1, 2, 3, 4, 5] rfl)
  have J44 : ∀ (x : Int32) (x1 : Int32), (¬ (y2 = 0 ∨ y3 = 0)) → (actsAs x (gEff y4 m0)) → (actsAs x1 (gEff y5 m1)) → ∀ (H : Heap) (locs : List Loc), xS D (gw ad ca) A s (ar, us, sv, d, y0, y1, y2, y3, y4, y5) H locs → ∀ ls : Array Slot, lv_has ls 8 [(4, .int x), (0, .ref (ad 0)), (1, .int (nI (pic (y0, y1, y2, y3, y4, y5)))), (2, .int (nI m0)), (3, .int (nI m1))] → W p l e R s m args below meth c H locs 0 0 Q (F0 m 44 ls [.int x1]) := by
    intro x x1 ho hx0 hx1 H locs hG ls hl
    refine lv_istore (lv' := [(5, .int x1), (4, .int x), (0, .ref (ad 0)), (1, .int (nI (pic (y0, y1, y2, y3, y4, y5)))), (2, .int (nI m0)), (3, .int (nI m1))]) hx hb dX0_step_44 hl (by decide) rfl (fun ls hl => ?_)
    refine lv_aload_n hx hb dX0_step_46 rfl (lv_at hl 2 rfl) ?_
    refine g_f_pa hC hG dX0_step_47 ?_
    refine lv_iconst (v := nI 0) hx hb dX0_step_50 (by decide) ?_
    refine lv_aload_n hx hb dX0_step_51 rfl (lv_at hl 2 rfl) ?_
    refine g_f_pa hC hG dX0_step_52 ?_
    refine lv_iconst (v := nI 0) hx hb dX0_step_55 (by decide) ?_
    refine g_l_w0 hC hG dX0_step_56 ?_
    refine n_if_le (by omega) hx hb (tgt := 71) dX0_step_57 (by decide) (fun h57 => ?_) (fun h57 => ?_)
    · refine lv_iconst (v := nI 0) hx hb dX0_step_71 (by decide) ?_
      exact J72 x x1 0 ho hx0 hx1 (by omega) _ _ hG ls (lv_sub hl [0, 1, 2, 3, 4, 5] rfl)
    · refine lv_aload_n hx hb dX0_step_60 rfl (lv_at hl 2 rfl) ?_
      refine g_f_pa hC hG dX0_step_61 ?_
      refine lv_iconst (v := nI 0) hx hb dX0_step_64 (by decide) ?_
      refine g_l_w0 hC hG dX0_step_65 ?_
      refine lv_iconst (v := nI 1) hx hb dX0_step_66 (by decide) ?_
      refine n_sub (by omega) hx hb dX0_step_67 ?_
      refine lv_goto (tgt := 72) hx hb dX0_step_68 (by decide) ?_
      exact J72 x x1 (y4 - 1) ho hx0 hx1 (by omega) _ _ hG ls (lv_sub hl [0, 1, 2, 3, 4, 5] rfl)
  have J28 : ∀ (x : Int32), (¬ (y2 = 0 ∨ y3 = 0)) → (actsAs x (gEff y4 m0)) → ∀ (H : Heap) (locs : List Loc), xS D (gw ad ca) A s (ar, us, sv, d, y0, y1, y2, y3, y4, y5) H locs → ∀ ls : Array Slot, lv_has ls 8 [(0, .ref (ad 0)), (1, .int (nI (pic (y0, y1, y2, y3, y4, y5)))), (2, .int (nI m0)), (3, .int (nI m1))] → W p l e R s m args below meth c H locs 0 0 Q (F0 m 28 ls [.int x]) := by
    intro x ho hx0 H locs hG ls hl
    refine lv_istore (lv' := [(4, .int x), (0, .ref (ad 0)), (1, .int (nI (pic (y0, y1, y2, y3, y4, y5)))), (2, .int (nI m0)), (3, .int (nI m1))]) hx hb dX0_step_28 hl (by decide) rfl (fun ls hl => ?_)
    refine lv_aload_n hx hb dX0_step_30 rfl (lv_at hl 1 rfl) ?_
    refine g_f_pa hC hG dX0_step_31 ?_
    refine lv_iconst (v := nI 1) hx hb dX0_step_34 (by decide) ?_
    refine g_l_w1 hC hG dX0_step_35 ?_
    refine n_if_le (by omega) hx hb (tgt := 43) dX0_step_36 (by decide) (fun h36 => ?_) (fun h36 => ?_)
    · refine lv_iload_n hx hb dX0_step_43 rfl (lv_at hl 4 rfl) ?_
      exact J44 x (nI m1) ho hx0 (by rw [gEff, if_pos h36]; exact acts_nI (by omega)) _ _ hG ls (lv_sub hl [0, 1, 2, 3, 4] rfl)
    · refine lv_iconst (v := (-1)) hx hb dX0_step_39 (by decide) ?_
      refine lv_goto (tgt := 44) hx hb dX0_step_40 (by decide) ?_
      exact J44 x ((-1)) ho hx0 (by rw [gEff, if_neg h36]; exact acts_m1) _ _ hG ls (lv_sub hl [0, 1, 2, 3, 4] rfl)
  refine lv_iload_n hx hb dX0_step_0 rfl (lv_at hl 1 rfl) ?_
  refine xc_si (n := 1) (rest := []) hC hG (mX0_isOver l D ad ca ar us sv d p0 p1 h0 h1 w0 w1 y0 y1 y2 y3 y4 y5 hy) (lw_S q36 q37 q18 q38) (by decide +kernel) rfl rfl (by rw [hR]; exact ⟨Nat.le_of_ble_eq_true rfl, Nat.le_of_ble_eq_true rfl⟩) rfl hl.1 rfl (Nat.le_of_ble_eq_true rfl) dX0_step_1 (fun r u H locs hp hG => ?_)
  obtain ⟨rfl, hp⟩ := hp
  rcases hp with ⟨rfl, ho⟩ | ⟨rfl, ho⟩
  · refine n_if_eq (by omega) hx hb (tgt := 9) dX0_step_4 (by decide) (fun hq4 => absurd hq4 (by omega)) (fun hq4 => ?_)
    refine lv_iload_n hx hb dX0_step_7 rfl (lv_at hl 1 rfl) ?_
    exact hret _ _ _ _ _ _ hG (⟨⟨_, rfl⟩, by rw [fNext, if_pos ho]⟩) rfl dX0_step_8
  · refine n_if_eq (by omega) hx hb (tgt := 9) dX0_step_4 (by decide) (fun hq4 => ?_) (fun hq4 => absurd hq4 (by omega))
    refine lv_aload_n hx hb dX0_step_9 rfl (lv_at hl 0 rfl) ?_
    refine lv_iload_n hx hb dX0_step_10 rfl (lv_at hl 1 rfl) ?_
    refine xc_vv (n := 1) (rest := []) (ci := 0) (q0 := 0) hC hG (mX0_load l D ad ca ar us sv d p0 p1 h0 h1 w0 w1 y0 y1 y2 y3 y4 y5 hy) (lw_V q39 q41 qs2 q18 q42) (by decide +kernel) rfl rfl (by rw [hR]; exact ⟨Nat.le_of_ble_eq_true rfl, Nat.le_of_ble_eq_true rfl⟩) rfl rfl rfl hl.1 rfl (Nat.le_of_ble_eq_true rfl) dX0_step_11 (fun u H locs hp hG => ?_)
    obtain rfl := hp
    refine lv_aload_n hx hb dX0_step_14 rfl (lv_at hl 0 rfl) ?_
    refine g_f_pa hC hG dX0_step_15 ?_
    refine lv_iconst (v := nI 0) hx hb dX0_step_18 (by decide) ?_
    refine g_l_w0 hC hG dX0_step_19 ?_
    refine n_if_le (by omega) hx hb (tgt := 27) dX0_step_20 (by decide) (fun h20 => ?_) (fun h20 => ?_)
    · refine lv_iload_n hx hb dX0_step_27 rfl (lv_at hl 2 rfl) ?_
      exact J28 (nI m0) ho (by rw [gEff, if_pos h20]; exact acts_nI (by omega)) _ _ hG ls (lv_sub hl [0, 1, 2, 3] rfl)
    · refine lv_iconst (v := (-1)) hx hb dX0_step_23 (by decide) ?_
      refine lv_goto (tgt := 28) hx hb dX0_step_24 (by decide) ?_
      exact J28 ((-1)) ho (by rw [gEff, if_neg h20]; exact acts_m1) _ _ hG ls (lv_sub hl [0, 1, 2, 3] rfl)
end
section
/-! what holds of the component's cells, and what is answered -/
def gOK (M : Nat → Nat) (d : Nat) (ar us sv : Nat → Nat) : Prop :=
  d ≤ 40 ∧ (∀ i, i < 80 → M i < 5) ∧ (∀ i, i < 80 → ar i < 2 ∧ (ar i = 0 ↔ M i = 0)) ∧ (∀ q, q < 2 → ∀ k, k < 40 → us (40 * q + k) = U M q k) ∧ (∀ n, n ≤ 40 → sv n = pic (FF M n))
theorem us_lt {M us : Nat → Nat} (hM : ∀ i, i < 80 → M i < 5) (hu : ∀ q, q < 2 → ∀ k, k < 40 → us (40 * q + k) = U M q k) : ∀ i, i < 80 → us i < 4 := by
  intro i hi
  have h := hu (i / 40) (by omega) (i % 40) (by omega)
  rw [show 40 * (i / 40) + i % 40 = i by omega] at h
  rw [h]
  exact U_lt hM (by omega) _ (by omega)
theorem uInv_lt {M M' : Nat → Nat} {p fr f ct : Nat} {uc : Nat → Nat} (h : uInv M M' p fr f ct uc) (hM : ∀ i, i < 80 → M i < 5) (hM' : ∀ i, i < 80 → M' i < 5) (hp : p < 2) : ∀ i, i < 80 → uc i < 4 := by
  intro i hi
  obtain ⟨a1, a2, a3, a4, a5, a6, a7, a8⟩ := h
  have e : i = 40 * (i / 40) + i % 40 := by omega
  by_cases hq : i / 40 = p
  · by_cases hk : i % 40 < f
    · have := a5 _ hk
      rw [e, hq, this]
      exact U_lt hM' hp _ (by omega)
    · have := a6 (i % 40) (by omega) (by omega)
      rw [e, hq, this]
      exact U_lt hM hp _ (by omega)
  · have := a7 (i / 40) (by omega) hq (i % 40) (by omega)
    rw [e, this]
    exact U_lt hM (by omega) _ (by omega)
/-- a move may arrive -/
def okA (M : Nat → Nat) (x1 x2 x3 : Int32) (j f mo : Nat) : Prop := j < 2 ∧ f < 40 ∧ mo < 4 ∧ x1 = nI j ∧ x2 = nI f ∧ x3 = nI mo ∧ M (40 * j + f) = 0
/-- what arrive answers, and the moves behind it -/
def aArr (M : Nat → Nat) (d : Nat) (x1 x2 x3 : Int32) (r : Int32) (M' : Nat → Nat) : Prop :=
  (∃ j f mo, okA M x1 x2 x3 j f mo ∧ M' = up M (40 * j + f) (mo + 1) ∧ r = nI (cnt (fun n => decide (pic (FF M n) ≠ pic (FF M' n))) d)) ∨ ((¬ ∃ j f mo, okA M x1 x2 x3 j f mo) ∧ M' = M ∧ r = -1)
theorem nI_inj {a b : Nat} (ha : a < 2147483648) (hb : b < 2147483648) (h : nI a = nI b) : a = b := (nI_eq (by omega) (by omega)).mp h
theorem okA_un {M : Nat → Nat} {x1 x2 x3 : Int32} {j f mo j' f' mo' : Nat} (h : okA M x1 x2 x3 j f mo) (h' : okA M x1 x2 x3 j' f' mo') : j = j' ∧ f = f' ∧ mo = mo' := by
  obtain ⟨a1, a2, a3, a4, a5, a6, -⟩ := h
  obtain ⟨b1, b2, b3, b4, b5, b6, -⟩ := h'
  exact ⟨nI_inj (by omega) (by omega) (a4.symm.trans b4), nI_inj (by omega) (by omega) (a5.symm.trans b5), nI_inj (by omega) (by omega) (a6.symm.trans b6)⟩
theorem aArr_un {M : Nat → Nat} {d : Nat} {x1 x2 x3 r r' : Int32} {M1 M2 : Nat → Nat} (h : aArr M d x1 x2 x3 r M1) (h' : aArr M d x1 x2 x3 r' M2) : r = r' ∧ M1 = M2 := by
  rcases h with ⟨j, f, mo, h1, h2, h3⟩ | ⟨h1, h2, h3⟩ <;> rcases h' with ⟨j', f', mo', h1', h2', h3'⟩ | ⟨h1', h2', h3'⟩
  · obtain ⟨rfl, rfl, rfl⟩ := okA_un h1 h1'
    subst h2; subst h2'
    exact ⟨h3.trans h3'.symm, rfl⟩
  · exact absurd ⟨_, _, _, h1⟩ h1'
  · exact absurd ⟨_, _, _, h1'⟩ h1
  · exact ⟨h3.trans h3'.symm, h2.trans h2'.symm⟩
theorem noA1 {M : Nat → Nat} {x1 x2 x3 : Int32} (h : ¬ inB 2 x1) : ¬ ∃ j f mo, okA M x1 x2 x3 j f mo := by
  rintro ⟨j, f, mo, a1, a2, a3, a4, a5, a6, a7⟩
  exact h ⟨j, a1, a4⟩
theorem noA2 {M : Nat → Nat} {x1 x2 x3 : Int32} (h : ¬ inB 40 x2) : ¬ ∃ j f mo, okA M x1 x2 x3 j f mo := by
  rintro ⟨j, f, mo, a1, a2, a3, a4, a5, a6, a7⟩
  exact h ⟨f, a2, a5⟩
theorem noA3 {M : Nat → Nat} {x1 x2 x3 : Int32} (h : x3 < 0) : ¬ ∃ j f mo, okA M x1 x2 x3 j f mo := by
  rintro ⟨j, f, mo, a1, a2, a3, a4, a5, a6, a7⟩
  exact inB_neg (n := 4) (by decide) h ⟨mo, a3, a6⟩
theorem noA4 {M : Nat → Nat} {x1 x2 x3 : Int32} (h : nI 3 < x3) : ¬ ∃ j f mo, okA M x1 x2 x3 j f mo := by
  rintro ⟨j, f, mo, a1, a2, a3, a4, a5, rfl, a7⟩
  rw [nI_ltI (by decide) (by omega)] at h
  omega
theorem noA5 {M : Nat → Nat} {x3 : Int32} {j f : Nat} (hj : j < 2) (hf : f < 40) (h : ¬ M (40 * j + f) = 0) : ¬ ∃ j' f' mo, okA M (nI j) (nI f) x3 j' f' mo := by
  rintro ⟨j', f', mo, a1, a2, a3, a4, a5, a6, a7⟩
  have e1 := nI_inj (by omega) (by omega) a4
  have e2 := nI_inj (by omega) (by omega) a5
  subst e1; subst e2
  exact h a7
theorem inB_mk3 {x : Int32} {n : Nat} (hn : n + 1 < 2147483648) (h0 : ¬ x < 0) (h1 : ¬ nI n < x) : inB (n + 1) x := by
  obtain ⟨j, hj, rfl⟩ := nI_of h0
  rw [nI_ltI (by omega) (by omega)] at h1
  exact ⟨j, by omega, rfl⟩
theorem ar_up {M M' ar : Nat → Nat} {j f mo : Nat} (hN : uNew M M' j f mo) (h : ∀ i, i < 80 → ar i < 2 ∧ (ar i = 0 ↔ M i = 0)) : ∀ i, i < 80 → up ar (40 * j + f) 1 i < 2 ∧ (up ar (40 * j + f) 1 i = 0 ↔ M' i = 0) := by
  intro i hi
  by_cases e : i = 40 * j + f
  · rw [e, up_at, uNew_at hN]
    exact ⟨by decide, by omega⟩
  · rw [up_ne _ _ e, uNew_ne hN e]
    exact h i hi
theorem uEnd_rest {M M' : Nat → Nat} {p fr ct : Nat} {uc sv : Nat → Nat} (h : uEnd M M' p fr ct uc) (hsv : ∀ n, n ≤ 40 → sv n = pic (FF M n)) : ∀ n, ct ≤ n → n < 40 → sv n = pic (FF M' n) → sv (n + 1) = pic (FF M' (n + 1)) := by
  intro n hn h40 e
  rw [hsv n (by omega)] at e
  have e2 := pic_inj (FF_ok M n) (FF_ok M' n) e
  rw [hsv (n + 1) (by omega)]
  show pic (fNext (FF M n) (U M 0 n) (U M 1 n)) = pic (fNext (FF M' n) (U M' 0 n) (U M' 1 n))
  rw [e2, h.2.2.2.1 0 (by decide) n hn h40, h.2.2.2.1 1 (by decide) n hn h40]
theorem uEnd_pre {M M' : Nat → Nat} {p fr ct : Nat} {uc sv : Nat → Nat} (h : uEnd M M' p fr ct uc) (hsv : ∀ n, n ≤ 40 → sv n = pic (FF M n)) (hfr : fr < 40) : ∀ n, n ≤ fr → sv n = pic (FF M' n) := by
  intro n hn
  rw [hsv n (by omega), FF_low n (fun k hk => ⟨h.2.2.2.2 0 (by decide) k (by omega), h.2.2.2.2 1 (by decide) k (by omega)⟩)]
theorem uEnd_same {M M' : Nat → Nat} {p fr ct : Nat} {uc : Nat → Nat} (h : uEnd M M' p fr ct uc) (hc : ct ≤ fr) : ∀ n, n ≤ 40 → FF M' n = FF M n := by
  intro n hn
  refine FF_low n (fun k hk => ?_)
  by_cases e : k < fr
  · exact ⟨h.2.2.2.2 0 (by decide) k e, h.2.2.2.2 1 (by decide) k e⟩
  · exact ⟨h.2.2.2.1 0 (by decide) k (by omega) (by omega), h.2.2.2.1 1 (by decide) k (by omega) (by omega)⟩
theorem rP_cnt {M M' : Nat → Nat} {d : Nat} {sv : Nat → Nat} (hd : d ≤ 40) (hsv : ∀ n, n ≤ 40 → sv n = pic (FF M n)) : cnt (rP M' d sv) 40 = cnt (fun n => decide (pic (FF M n) ≠ pic (FF M' n))) d := by
  rw [cnt_stop 40 hd (fun k h1 h2 => by simp [rP]; omega)]
  refine cnt_ext d (fun k h1 h2 => ?_)
  simp [rP, hsv k (by omega), h2]
theorem same_cnt {M M' : Nat → Nat} {d : Nat} (hd : d ≤ 40) (h : ∀ n, n ≤ 40 → FF M' n = FF M n) : cnt (fun n => decide (pic (FF M n) ≠ pic (FF M' n))) d = 0 :=
  cnt_none d (fun k h1 h2 => by simp [h k (by omega)])
theorem arr_move {M : Nat → Nat} {d : Nat} {x : Nat} {j f mo : Nat} (hj : j < 2) (hf : f < 40) (hmo : mo < 4) (h0 : M (40 * j + f) = 0) {M' : Nat → Nat} (hM' : M' = up M (40 * j + f) (mo + 1)) (hx : x = cnt (fun n => decide (pic (FF M n) ≠ pic (FF M' n))) d) : aArr M d (nI j) (nI f) (nI mo) (nI x) M' :=
  Or.inl ⟨j, f, mo, ⟨hj, hf, hmo, rfl, rfl, rfl, h0⟩, hM', by rw [hx]⟩
/-- the first missing frame -/
def fmIs (M : Nat → Nat) (j f : Nat) : Prop := f ≤ 40 ∧ (∀ k, k < f → M (40 * j + k) ≠ 0) ∧ (f < 40 → M (40 * j + f) = 0)
theorem fmIs_un {M : Nat → Nat} {j f f' : Nat} (h : fmIs M j f) (h' : fmIs M j f') : f = f' := by
  obtain ⟨a1, a2, a3⟩ := h
  obtain ⟨b1, b2, b3⟩ := h'
  rcases Nat.lt_trichotomy f f' with e | e | e
  · exact absurd (a3 (by omega)) (b2 f e)
  · exact e
  · exact absurd (b3 (by omega)) (a2 f' e)
def sureIs (M : Nat → Nat) (f : Nat) : Prop := f ≤ 40 ∧ (∀ k, k < f → M k ≠ 0 ∧ M (40 + k) ≠ 0) ∧ (f < 40 → M f = 0 ∨ M (40 + f) = 0)
theorem sureIs_un {M : Nat → Nat} {f f' : Nat} (h : sureIs M f) (h' : sureIs M f') : f = f' := by
  obtain ⟨a1, a2, a3⟩ := h
  obtain ⟨b1, b2, b3⟩ := h'
  rcases Nat.lt_trichotomy f f' with e | e | e
  · have := a3 (by omega)
    have := b2 f e
    omega
  · exact e
  · have := b3 (by omega)
    have := a2 f' e
    omega
theorem sure_of {M : Nat → Nat} {a b : Nat} (ha : fmIs M 0 a) (hb : fmIs M 1 b) {f : Nat} (hf : f = if a < b then a else b) : sureIs M f := by
  obtain ⟨a1, a2, a3⟩ := ha
  obtain ⟨b1, b2, b3⟩ := hb
  simp only [Nat.mul_zero, Nat.zero_add, Nat.mul_one] at a2 a3 b2 b3
  by_cases h : a < b
  · rw [if_pos h] at hf
    subst hf
    exact ⟨a1, fun k hk => ⟨a2 k hk, b2 k (by omega)⟩, fun hk => Or.inl (a3 hk)⟩
  · rw [if_neg h] at hf
    subst hf
    exact ⟨b1, fun k hk => ⟨a2 k (by omega), b2 k hk⟩, fun hk => Or.inr (b3 hk)⟩
/-- a player's own number -/
def aSel (a b : Nat) (x r : Int32) : Prop := (x = nI 0 ∧ r = nI a) ∨ (x = nI 1 ∧ r = nI b) ∨ (¬ inB 2 x ∧ r = -1)
theorem isP_cases {x r : Int32} (h : (r = nI 1 ∧ inB 2 x) ∨ (r = nI 0 ∧ ¬ inB 2 x)) : (r = nI 1 ∧ x = nI 0) ∨ (r = nI 1 ∧ x = nI 1) ∨ (r = nI 0 ∧ ¬ inB 2 x) := by
  rcases h with ⟨h1, j, hj, h2⟩ | h
  · rcases (show j = 0 ∨ j = 1 by omega) with rfl | rfl
    · exact Or.inl ⟨h1, h2⟩
    · exact Or.inr (Or.inl ⟨h1, h2⟩)
  · exact Or.inr (Or.inr h)
theorem aSel_un {a b : Nat} {x r r' : Int32} (h : aSel a b x r) (h' : aSel a b x r') : r = r' := by
  rcases h with ⟨h1, h2⟩ | ⟨h1, h2⟩ | ⟨h1, h2⟩ <;> rcases h' with ⟨h3, h4⟩ | ⟨h3, h4⟩ | ⟨h3, h4⟩
  · rw [h2, h4]
  · exact absurd (h1.symm.trans h3) (by decide)
  · exact absurd ⟨0, by decide, h1⟩ h3
  · exact absurd (h1.symm.trans h3) (by decide)
  · rw [h2, h4]
  · exact absurd ⟨1, by decide, h1⟩ h3
  · exact absurd ⟨0, by decide, h3⟩ h1
  · exact absurd ⟨1, by decide, h3⟩ h1
  · rw [h2, h4]
/-- an answer at a place below n -/
def aIdx (n : Nat) (g : Nat → Int32) (x r : Int32) : Prop := (∃ j, j < n ∧ x = nI j ∧ r = g j) ∨ (¬ inB n x ∧ r = -1)
theorem aIdx_un {n : Nat} (hn : n < 2147483648) {g : Nat → Int32} {x r r' : Int32} (h : aIdx n g x r) (h' : aIdx n g x r') : r = r' := by
  rcases h with ⟨j, h1, h2, h3⟩ | ⟨h1, h2⟩ <;> rcases h' with ⟨j', h1', h2', h3'⟩ | ⟨h1', h2'⟩
  · have e := nI_inj (by omega) (by omega) (h2.symm.trans h2')
    subst e
    rw [h3, h3']
  · exact absurd ⟨j, h1, h2⟩ h1'
  · exact absurd ⟨j', h1', h2'⟩ h1
  · rw [h2, h2']
def aMove (M : Nat → Nat) (x1 x2 r : Int32) : Prop := (∃ j f, j < 2 ∧ f < 40 ∧ x1 = nI j ∧ x2 = nI f ∧ r = nI (U M j f)) ∨ ((¬ inB 2 x1 ∨ ¬ inB 40 x2) ∧ r = -1)
theorem aMove_un {M : Nat → Nat} {x1 x2 r r' : Int32} (h : aMove M x1 x2 r) (h' : aMove M x1 x2 r') : r = r' := by
  rcases h with ⟨j, f, a1, a2, a3, a4, a5⟩ | ⟨h1, h2⟩ <;> rcases h' with ⟨j', f', b1, b2, b3, b4, b5⟩ | ⟨h1', h2'⟩
  · have e1 := nI_inj (by omega) (by omega) (a3.symm.trans b3)
    have e2 := nI_inj (by omega) (by omega) (a4.symm.trans b4)
    subst e1; subst e2
    rw [a5, b5]
  · rcases h1' with h | h
    · exact absurd ⟨j, a1, a3⟩ h
    · exact absurd ⟨f, a2, a4⟩ h
  · rcases h1 with h | h
    · exact absurd ⟨j', b1, b3⟩ h
    · exact absurd ⟨f', b2, b4⟩ h
  · rw [h2, h2']
def aMiss (M : Nat → Nat) (x r : Int32) : Prop := (∃ j f, j < 2 ∧ x = nI j ∧ fmIs M j f ∧ r = if f < 40 then nI f else -2) ∨ (¬ inB 2 x ∧ r = -1)
theorem aMiss_un {M : Nat → Nat} {x r r' : Int32} (h : aMiss M x r) (h' : aMiss M x r') : r = r' := by
  rcases h with ⟨j, f, a1, a2, a3, a4⟩ | ⟨h1, h2⟩ <;> rcases h' with ⟨j', f', b1, b2, b3, b4⟩ | ⟨h1', h2'⟩
  · have e1 := nI_inj (by omega) (by omega) (a2.symm.trans b2)
    subst e1
    have e2 := fmIs_un a3 b3
    subst e2
    rw [a4, b4]
  · exact absurd ⟨j, a1, a2⟩ h1'
  · exact absurd ⟨j', b1, b2⟩ h1
  · rw [h2, h2']
/-- the fight is over -/
def fOver (y : Fi) : Prop := y.2.2.1 = 0 ∨ y.2.2.2.1 = 0
def fWin (y : Fi) : Int32 := if y.2.2.1 = 0 ∨ y.2.2.2.1 = 0 then (if y.2.2.1 = 0 then (if y.2.2.2.1 = 0 then nI 2 else nI 1) else nI 0) else -2
def aOver (M : Nat → Nat) (r : Int32) : Prop := (∃ n, n ≤ 40 ∧ fOver (FF M n) ∧ (∀ k, k < n → ¬ fOver (FF M k)) ∧ r = nI n) ∨ ((∀ k, k ≤ 40 → ¬ fOver (FF M k)) ∧ r = -2)
theorem aOver_un {M : Nat → Nat} {r r' : Int32} (h : aOver M r) (h' : aOver M r') : r = r' := by
  rcases h with ⟨n, a1, a2, a3, a4⟩ | ⟨h1, h2⟩ <;> rcases h' with ⟨n', b1, b2, b3, b4⟩ | ⟨h1', h2'⟩
  · rcases Nat.lt_trichotomy n n' with e | e | e
    · exact absurd a2 (b3 n e)
    · subst e; rw [a4, b4]
    · exact absurd b2 (a3 n' e)
  · exact absurd a2 (h1' n a1)
  · exact absurd b2 (h1 n' b1)
  · rw [h2, h2']
def aSet (M : Nat → Nat) (d : Nat) (r : Int32) : Prop := ∃ f, sureIs M f ∧ ((r = nI 1 ∧ (d ≤ f ∨ fOver (FF M f))) ∨ (r = nI 0 ∧ ¬ (d ≤ f ∨ fOver (FF M f))))
theorem aSet_un {M : Nat → Nat} {d : Nat} {r r' : Int32} (h : aSet M d r) (h' : aSet M d r') : r = r' := by
  obtain ⟨f, h1, h2⟩ := h
  obtain ⟨f', h1', h2'⟩ := h'
  have e := sureIs_un h1 h1'
  subst e
  rcases h2 with ⟨e1, c1⟩ | ⟨e1, c1⟩ <;> rcases h2' with ⟨e2, c2⟩ | ⟨e2, c2⟩
  · rw [e1, e2]
  · exact absurd c1 c2
  · exact absurd c2 c1
  · rw [e1, e2]
end
section
/-! X0: use, replay -/

set_option maxHeartbeats 4000000 in
set_option maxRecDepth 100000 in
theorem mX0_use (l : Launch) (D : va_G) (ad : Nat → Nat) (ca : Nat → ClassId) (ar us sv : Nat → Nat) (d p0 p1 h0 h1 w0 w1 : Nat) (M M' : Nat → Nat) (j fr mo : Nat) (hN : uNew M M' j fr mo) (hM : ∀ i, i < 80 → M i < 5) (hu : ∀ q, q < 2 → ∀ k, k < 40 → us (40 * q + k) = U M q k) (har : ∀ i, i < 80 → ar i < 2 ∧ (ar i = 0 ↔ M' i = 0)) : XMi l yX0_use (ws_ yX0_use cX0_use 8 (some .int)) ({ frames := 1, cells := 0, slots := 0, locals := 23 }) D (gw ad ca) (gt ca) [.ref (ad 0), .int (nI j), .int (nI fr), .int (nI mo)] (ar, us, sv, d, p0, p1, h0, h1, w0, w1) (fun r u => ∃ us' ct, u = (ar, us', sv, d, p0, p1, h0, h1, w0, w1) ∧ r = nI ct ∧ uEnd M M' j fr ct us') := by
  refine xe_i (own := RX0) (by decide) rfl (Nat.le_of_ble_eq_true rfl) ?_
  intro p e s m below meth c A R args Q hR hC hret H locs hG ls hl
  obtain ⟨hx, hb, hml, hown, hts, hK, hA⟩ := id hC
  have hl : lv_has ls 8 [(0, .ref (ad 0)), (1, .int (nI j)), (2, .int (nI fr)), (3, .int (nI mo))] := hl
  have hj := hN.1
  have hfr := hN.2.1
  have hmo := hN.2.2.1
  have hM' := uNew_5 hN hM
  have hub0 := us_lt hM hu
  have J42 : ∀ (n : Nat) (uc : Nat → Nat) (f : Nat) (ct : Nat), (41 ≤ f + n) → (f ≤ 40) → (uInv M M' j fr f ct uc) → ∀ (H : Heap) (locs : List Loc), xS D (gw ad ca) A s (ar, uc, sv, d, p0, p1, h0, h1, w0, w1) H locs → ∀ ls : Array Slot, lv_has ls 8 [(6, .int (nI f)), (5, .int (nI ct)), (0, .ref (ad 0)), (1, .int (nI j))] → W p l e R s m args below meth c H locs 0 0 Q (F0 m 42 ls []) := by
    intro n
    induction n with
    | zero =>
      intro uc f ct hn hf40 hI
      exact absurd hn (by omega)
    | succ n ih =>
      intro uc f ct hn hf40 hI H locs hG ls hl
      have hub := uInv_lt hI hM hM' hj
      refine lv_iload hx hb dX0_use_42 (lv_at hl 0 rfl) ?_
      refine lv_bipush (v := nI 40) hx hb dX0_use_44 (by decide) ?_
      refine n_icmp_ge (by omega) hx hb (tgt := 117) dX0_use_46 (by decide) (fun h46 => ?_) (fun h46 => ?_)
      · refine lv_iload hx hb dX0_use_117 (lv_at hl 1 rfl) ?_
        exact hret _ _ _ _ _ _ hG (⟨uc, ct, rfl, rfl, by first | exact uInv_end hN hI (Or.inl (by omega)) | exact uInv_end hN hI (Or.inr ⟨by omega, fun z => h61 (har1.2.mpr z)⟩)⟩) rfl dX0_use_119
      · refine lv_aload_n hx hb dX0_use_49 rfl (lv_at hl 2 rfl) ?_
        refine g_f_ar hC hG dX0_use_50 ?_
        refine lv_iload_n hx hb dX0_use_53 rfl (lv_at hl 3 rfl) ?_
        refine lv_bipush (v := nI 40) hx hb dX0_use_54 (by decide) ?_
        refine n_mul hx hb dX0_use_56 ?_
        refine n_as (40 * j) (Nat.mul_comm _ _) ?_
        refine lv_iload hx hb dX0_use_57 (lv_at hl 0 rfl) ?_
        refine n_add hx hb dX0_use_59 ?_
        have har1 := har (40 * j + f) (by omega)
        refine g_l_ar (by omega) hC hG dX0_use_60 ?_
        refine n_if_ne (by omega) hx hb (tgt := 117) dX0_use_61 (by decide) (fun h61 => ?_) (fun h61 => ?_)
        · refine lv_iload hx hb dX0_use_117 (lv_at hl 1 rfl) ?_
          exact hret _ _ _ _ _ _ hG (⟨uc, ct, rfl, rfl, by first | exact uInv_end hN hI (Or.inl (by omega)) | exact uInv_end hN hI (Or.inr ⟨by omega, fun z => h61 (har1.2.mpr z)⟩)⟩) rfl dX0_use_119
        · refine lv_aload_n hx hb dX0_use_64 rfl (lv_at hl 2 rfl) ?_
          refine lv_iload_n hx hb dX0_use_65 rfl (lv_at hl 3 rfl) ?_
          refine lv_iload hx hb dX0_use_66 (lv_at hl 0 rfl) ?_
          refine xc_vi (n := 2) (rest := []) (ci := 0) (q0 := 0) hC hG (mX0_guess l D ad ca ar uc sv d p0 p1 h0 h1 w0 w1 j f hj (by omega) hub) (lw_V q95 q97 qs7 q18 q98) (by decide +kernel) rfl rfl (by rw [hR]; exact ⟨Nat.le_of_ble_eq_true rfl, Nat.le_of_ble_eq_true rfl⟩) rfl rfl rfl hl.1 rfl (Nat.le_of_ble_eq_true rfl) dX0_use_68 (fun r u H locs hp hG => ?_)
          obtain ⟨rfl, hr⟩ := hp
          rw [uInv_gs hI (by omega) (har1.2.mp h61)] at hr
          subst hr
          refine lv_istore (lv' := [(7, .int (nI (U M' j f))), (6, .int (nI f)), (5, .int (nI ct)), (0, .ref (ad 0)), (1, .int (nI j))]) hx hb dX0_use_71 hl (by decide) rfl (fun ls hl => ?_)
          refine lv_aload_n hx hb dX0_use_73 rfl (lv_at hl 3 rfl) ?_
          refine g_f_us hC hG dX0_use_74 ?_
          refine lv_iload_n hx hb dX0_use_77 rfl (lv_at hl 4 rfl) ?_
          refine lv_bipush (v := nI 40) hx hb dX0_use_78 (by decide) ?_
          refine n_mul hx hb dX0_use_80 ?_
          refine n_as (40 * j) (Nat.mul_comm _ _) ?_
          refine lv_iload hx hb dX0_use_81 (lv_at hl 1 rfl) ?_
          refine n_add hx hb dX0_use_83 ?_
          have hUf := U_lt hM' hj f (by omega)
          have hucf := hub (40 * j + f) (by omega)
          refine g_l_us (by omega) hC hG dX0_use_84 ?_
          refine lv_iload hx hb dX0_use_85 (lv_at hl 0 rfl) ?_
          refine n_icmp_eq (by omega) hx hb (tgt := 111) dX0_use_87 (by decide) (fun h87 => ?_) (fun h87 => ?_)
          · refine lv_iinc (v := nI (f + 1)) (lv' := [(6, .int (nI (f + 1))), (7, .int (nI (U M' j f))), (5, .int (nI ct)), (0, .ref (ad 0)), (1, .int (nI j))]) hx hb dX0_use_111 hl (k := 1) rfl (inc1 _) (by decide) rfl (fun ls hl => ?_)
            refine lv_goto (tgt := 42) hx hb dX0_use_114 (by decide) ?_
            exact ih uc (f + 1) ct (by omega) (by omega) (by first | exact uInv_init hN hu hct | exact uInv_eq hI (by omega) h87 | exact uInv_ne hI (by omega) hj) _ _ hG ls (lv_sub hl [0, 2, 3, 4] rfl)
          · refine lv_aload_n hx hb dX0_use_90 rfl (lv_at hl 3 rfl) ?_
            refine g_f_us hC hG dX0_use_91 ?_
            refine lv_iload_n hx hb dX0_use_94 rfl (lv_at hl 4 rfl) ?_
            refine lv_bipush (v := nI 40) hx hb dX0_use_95 (by decide) ?_
            refine n_mul hx hb dX0_use_97 ?_
            refine n_as (40 * j) (Nat.mul_comm _ _) ?_
            refine lv_iload hx hb dX0_use_98 (lv_at hl 1 rfl) ?_
            refine n_add hx hb dX0_use_100 ?_
            refine lv_iload hx hb dX0_use_101 (lv_at hl 0 rfl) ?_
            refine n_i2b (by omega) hx hb dX0_use_103 ?_
            refine g_s_us (by omega) (by omega) hC hG dX0_use_104 (fun H locs hG => ?_)
            refine lv_iload hx hb dX0_use_105 (lv_at hl 1 rfl) ?_
            refine lv_iconst (v := nI 1) hx hb dX0_use_107 (by decide) ?_
            refine n_add hx hb dX0_use_108 ?_
            refine lv_istore (lv' := [(5, .int (nI (f + 1))), (7, .int (nI (U M' j f))), (6, .int (nI f)), (0, .ref (ad 0)), (1, .int (nI j))]) hx hb dX0_use_109 hl (by decide) rfl (fun ls hl => ?_)
            refine lv_iinc (v := nI (f + 1)) (lv' := [(6, .int (nI (f + 1))), (5, .int (nI (f + 1))), (7, .int (nI (U M' j f))), (0, .ref (ad 0)), (1, .int (nI j))]) hx hb dX0_use_111 hl (k := 2) rfl (inc1 _) (by decide) rfl (fun ls hl => ?_)
            refine lv_goto (tgt := 42) hx hb dX0_use_114 (by decide) ?_
            exact ih ((up uc ((40 * j) + f) (U M' j f))) (f + 1) (f + 1) (by omega) (by omega) (by first | exact uInv_init hN hu hct | exact uInv_eq hI (by omega) h87 | exact uInv_ne hI (by omega) hj) _ _ hG ls (lv_sub hl [0, 1, 3, 4] rfl)
  have J26 : ∀ (ct : Nat), (ct = if us (40 * j + fr) = mo then fr else fr + 1) → ∀ (H : Heap) (locs : List Loc), xS D (gw ad ca) A s (ar, us, sv, d, p0, p1, h0, h1, w0, w1) H locs → ∀ ls : Array Slot, lv_has ls 8 [(4, .int (nI (40 * j + fr))), (0, .ref (ad 0)), (1, .int (nI j)), (2, .int (nI fr)), (3, .int (nI mo))] → W p l e R s m args below meth c H locs 0 0 Q (F0 m 26 ls [.int (nI ct)]) := by
    intro ct hct H locs hG ls hl
    refine lv_istore (lv' := [(5, .int (nI ct)), (4, .int (nI (40 * j + fr))), (0, .ref (ad 0)), (1, .int (nI j)), (2, .int (nI fr)), (3, .int (nI mo))]) hx hb dX0_use_26 hl (by decide) rfl (fun ls hl => ?_)
    refine lv_aload_n hx hb dX0_use_28 rfl (lv_at hl 2 rfl) ?_
    refine g_f_us hC hG dX0_use_29 ?_
    refine lv_iload hx hb dX0_use_32 (lv_at hl 1 rfl) ?_
    refine lv_iload_n hx hb dX0_use_34 rfl (lv_at hl 5 rfl) ?_
    refine n_i2b (by omega) hx hb dX0_use_35 ?_
    refine g_s_us (by omega) (by omega) hC hG dX0_use_36 (fun H locs hG => ?_)
    refine lv_iload_n hx hb dX0_use_37 rfl (lv_at hl 4 rfl) ?_
    refine lv_iconst (v := nI 1) hx hb dX0_use_38 (by decide) ?_
    refine n_add hx hb dX0_use_39 ?_
    refine lv_istore (lv' := [(6, .int (nI (fr + 1))), (5, .int (nI ct)), (4, .int (nI (40 * j + fr))), (0, .ref (ad 0)), (1, .int (nI j)), (2, .int (nI fr)), (3, .int (nI mo))]) hx hb dX0_use_40 hl (by decide) rfl (fun ls hl => ?_)
    exact J42 41 ((up us (40 * j + fr) mo)) (fr + 1) ct (by omega) (by omega) (by first | exact uInv_init hN hu hct | exact uInv_eq hI (by omega) h87 | exact uInv_ne hI (by omega) hj) _ _ hG ls (lv_sub hl [0, 1, 3, 4] rfl)
  refine lv_iload_n hx hb dX0_use_0 rfl (lv_at hl 1 rfl) ?_
  refine lv_bipush (v := nI 40) hx hb dX0_use_1 (by decide) ?_
  refine n_mul hx hb dX0_use_3 ?_
  refine n_as (40 * j) (Nat.mul_comm _ _) ?_
  refine lv_iload_n hx hb dX0_use_4 rfl (lv_at hl 2 rfl) ?_
  refine n_add hx hb dX0_use_5 ?_
  refine lv_istore (lv' := [(4, .int (nI ((40 * j) + fr))), (0, .ref (ad 0)), (1, .int (nI j)), (2, .int (nI fr)), (3, .int (nI mo))]) hx hb dX0_use_6 hl (by decide) rfl (fun ls hl => ?_)
  refine lv_aload_n hx hb dX0_use_8 rfl (lv_at hl 1 rfl) ?_
  refine g_f_us hC hG dX0_use_9 ?_
  refine lv_iload hx hb dX0_use_12 (lv_at hl 0 rfl) ?_
  have hb0 := hub0 (40 * j + fr) (by omega)
  refine g_l_us (by omega) hC hG dX0_use_14 ?_
  refine lv_iload_n hx hb dX0_use_15 rfl (lv_at hl 4 rfl) ?_
  refine n_icmp_eq (by omega) hx hb (tgt := 25) dX0_use_16 (by decide) (fun h16 => ?_) (fun h16 => ?_)
  · refine lv_iload_n hx hb dX0_use_25 rfl (lv_at hl 3 rfl) ?_
    exact J26 fr (by first | rw [if_pos h16] | rw [if_neg h16]) _ _ hG ls (lv_sub hl [0, 1, 2, 3, 4] rfl)
  · refine lv_iload_n hx hb dX0_use_19 rfl (lv_at hl 3 rfl) ?_
    refine lv_iconst (v := nI 1) hx hb dX0_use_20 (by decide) ?_
    refine n_add hx hb dX0_use_21 ?_
    refine lv_goto (tgt := 26) hx hb dX0_use_22 (by decide) ?_
    exact J26 (fr + 1) (by first | rw [if_pos h16] | rw [if_neg h16]) _ _ hG ls (lv_sub hl [0, 1, 2, 3, 4] rfl)

set_option maxHeartbeats 4000000 in
set_option maxRecDepth 100000 in
theorem mX0_replay (l : Launch) (D : va_G) (ad : Nat → Nat) (ca : Nat → ClassId) (ar us sv : Nat → Nat) (d p0 p1 h0 h1 w0 w1 : Nat) (M : Nat → Nat) (fr ut : Nat) (hfr : fr ≤ 40) (hut : ut ≤ 40) (hd : d ≤ 40) (hM : ∀ i, i < 80 → M i < 5) (hu : ∀ q, q < 2 → ∀ k, k < 40 → us (40 * q + k) = U M q k) (hsv : ∀ n, n ≤ 40 → sv n < 2147483648) (hpre : ∀ n, n ≤ fr → sv n = pic (FF M n)) (hrest : ∀ n, ut ≤ n → n < 40 → sv n = pic (FF M n) → sv (n + 1) = pic (FF M (n + 1))) : XMi l yX0_replay (ws_ yX0_replay cX0_replay 7 (some .int)) ({ frames := 2, cells := 0, slots := 0, locals := 50 }) D (gw ad ca) (gt ca) [.ref (ad 0), .int (nI fr), .int (nI ut)] (ar, us, sv, d, p0, p1, h0, h1, w0, w1) (fun r u => (∃ (sv' : Nat → Nat) (z : Fi), u = (ar, us, sv', d, z) ∧ ∀ n, n ≤ 40 → sv' n = pic (FF M n)) ∧ r = nI (cnt (rP M d sv) 40)) := by
  refine xe_i (own := RX0) (by decide) rfl (Nat.le_of_ble_eq_true rfl) ?_
  intro p e s m below meth c A R args Q hR hC hret H locs hG ls hl
  obtain ⟨hx, hb, hml, hown, hts, hK, hA⟩ := id hC
  have hl : lv_has ls 7 [(0, .ref (ad 0)), (1, .int (nI fr)), (2, .int (nI ut))] := hl
  have J8 : ∀ (n : Nat) (sc : Nat → Nat) (a0 : Nat) (a1 : Nat) (a2 : Nat) (a3 : Nat) (a4 : Nat) (a5 : Nat) (k : Nat) (df : Nat) (f : Nat), (41 ≤ f + n) → (f ≤ 40) → (rInv M d fr f k df sv sc) → ∀ (H : Heap) (locs : List Loc), xS D (gw ad ca) A s (ar, us, sc, d, a0, a1, a2, a3, a4, a5) H locs → ∀ ls : Array Slot, lv_has ls 7 [(5, .int (nI f)), (4, .int (nI df)), (3, .int (nI k)), (0, .ref (ad 0)), (2, .int (nI ut))] → W p l e R s m args below meth c H locs 0 0 Q (F0 m 8 ls []) := by
    intro n
    induction n with
    | zero =>
      intro sc a0 a1 a2 a3 a4 a5 k df f hn hf40 hI
      exact absurd hn (by omega)
    | succ n ih =>
      intro sc a0 a1 a2 a3 a4 a5 k df f hn hf40 hI H locs hG ls hl
      have hdf := hI.2.2.1
      refine lv_iload hx hb dX0_replay_8 (lv_at hl 0 rfl) ?_
      refine lv_bipush (v := nI 40) hx hb dX0_replay_10 (by decide) ?_
      refine n_icmp_ge (by omega) hx hb (tgt := 118) dX0_replay_12 (by decide) (fun h12 => ?_) (fun h12 => ?_)
      · refine lv_iload_n hx hb dX0_replay_118 rfl (lv_at hl 2 rfl) ?_
        exact hret _ _ _ _ _ _ hG ((by first | (have hE := rInv_end hI hrest (Or.inl (by omega)); exact ⟨⟨sc, _, rfl, hE.1⟩, by rw [hE.2]⟩) | (have hE := rInv_end hI hrest (Or.inr ⟨by omega, h23⟩); exact ⟨⟨sc, _, rfl, hE.1⟩, by rw [hE.2]⟩))) rfl dX0_replay_119
      · refine lv_iload hx hb dX0_replay_15 (lv_at hl 0 rfl) ?_
        refine lv_iload_n hx hb dX0_replay_17 rfl (lv_at hl 4 rfl) ?_
        refine n_icmp_lt (by omega) hx hb (tgt := 26) dX0_replay_18 (by decide) (fun h18 => ?_) (fun h18 => ?_)
        · have e0 : us f = U M 0 f := by simpa using hu 0 (by decide) f (by omega)
          have e1 : us (40 + f) = U M 1 f := by simpa using hu 1 (by decide) f (by omega)
          refine lv_aload_n hx hb dX0_replay_26 rfl (lv_at hl 3 rfl) ?_
          refine lv_aload_n hx hb dX0_replay_27 rfl (lv_at hl 3 rfl) ?_
          refine g_f_sv hC hG dX0_replay_28 ?_
          refine lv_iload hx hb dX0_replay_31 (lv_at hl 0 rfl) ?_
          refine g_l_sv (by omega) hC hG dX0_replay_33 ?_
          refine n_as (pic (FF M f)) (hI.2.2.2.1 f (Nat.le_refl _)) ?_
          refine lv_aload_n hx hb dX0_replay_34 rfl (lv_at hl 3 rfl) ?_
          refine g_f_us hC hG dX0_replay_35 ?_
          refine lv_iload hx hb dX0_replay_38 (lv_at hl 0 rfl) ?_
          refine g_l_us (by omega) hC hG dX0_replay_40 ?_
          refine n_as (U M 0 f) e0 ?_
          refine lv_aload_n hx hb dX0_replay_41 rfl (lv_at hl 3 rfl) ?_
          refine g_f_us hC hG dX0_replay_42 ?_
          refine lv_bipush (v := nI 40) hx hb dX0_replay_45 (by decide) ?_
          refine lv_iload hx hb dX0_replay_47 (lv_at hl 0 rfl) ?_
          refine n_add hx hb dX0_replay_49 ?_
          refine g_l_us (by omega) hC hG dX0_replay_50 ?_
          refine n_as (U M 1 f) e1 ?_
          refine xc_vi (n := 3) (rest := []) (ci := 0) (q0 := 0) hC hG (mX0_step l D ad ca ar us sc d a0 a1 a2 a3 a4 a5 (FF M f) (FF_ok M f) (U M 0 f) (U M 1 f) (U_lt hM (by decide) f (by omega)) (U_lt hM (by decide) f (by omega))) (lw_V q32 q34 qs1 q18 q35) (by decide +kernel) rfl rfl (by rw [hR]; exact ⟨Nat.le_of_ble_eq_true rfl, Nat.le_of_ble_eq_true rfl⟩) rfl rfl rfl hl.1 rfl (Nat.le_of_ble_eq_true rfl) dX0_replay_51 (fun r u H locs hp hG => ?_)
          obtain ⟨⟨⟨b0, b1, b2, b3, b4, b5⟩, rfl⟩, hr⟩ := hp
          have hr : r = nI (pic (FF M (f + 1))) := hr
          subst hr
          have hpl := pic_lt (FF_ok M (f + 1))
          have hsc := hI.2.2.2.2.1 (f + 1) (by omega) (by omega)
          have hsl := hsv (f + 1) (by omega)
          refine lv_istore (lv' := [(6, .int (nI (pic (FF M (f + 1))))), (5, .int (nI f)), (4, .int (nI df)), (3, .int (nI k)), (0, .ref (ad 0)), (2, .int (nI ut))]) hx hb dX0_replay_54 hl (by decide) rfl (fun ls hl => ?_)
          refine lv_iload hx hb dX0_replay_56 (lv_at hl 0 rfl) ?_
          refine lv_aload_n hx hb dX0_replay_58 rfl (lv_at hl 4 rfl) ?_
          refine g_f_sv hC hG dX0_replay_59 ?_
          refine lv_iload hx hb dX0_replay_62 (lv_at hl 1 rfl) ?_
          refine lv_iconst (v := nI 1) hx hb dX0_replay_64 (by decide) ?_
          refine n_add hx hb dX0_replay_65 ?_
          refine g_l_sv (by omega) hC hG dX0_replay_66 ?_
          refine n_icmp_eq (by omega) hx hb (tgt := 74) dX0_replay_67 (by decide) (fun h67 => ?_) (fun h67 => ?_)
          · refine lv_iconst (v := nI 0) hx hb dX0_replay_74 (by decide) ?_
            refine lv_istore (lv' := [(4, .int (nI 0)), (6, .int (nI (pic (FF M (f + 1))))), (5, .int (nI f)), (3, .int (nI k)), (0, .ref (ad 0)), (2, .int (nI ut))]) hx hb dX0_replay_75 hl (by decide) rfl (fun ls hl => ?_)
            refine lv_iload_n hx hb dX0_replay_77 rfl (lv_at hl 3 rfl) ?_
            refine lv_iload hx hb dX0_replay_78 (lv_at hl 0 rfl) ?_
            refine n_if_eq (by omega) hx hb (tgt := 98) dX0_replay_80 (by decide) (fun h80 => ?_) (fun h80 => absurd h80 (by omega))
            refine lv_iconst (v := nI 0) hx hb dX0_replay_98 (by decide) ?_
            refine n_add hx hb dX0_replay_99 ?_
            refine lv_istore_n (lv' := [(3, .int (nI (k + 0))), (4, .int (nI 0)), (6, .int (nI (pic (FF M (f + 1))))), (5, .int (nI f)), (0, .ref (ad 0)), (2, .int (nI ut))]) hx hb dX0_replay_100 rfl hl (by decide) rfl (fun ls hl => ?_)
            refine lv_aload_n hx hb dX0_replay_101 rfl (lv_at hl 4 rfl) ?_
            refine g_f_sv hC hG dX0_replay_102 ?_
            refine lv_iload hx hb dX0_replay_105 (lv_at hl 3 rfl) ?_
            refine lv_iconst (v := nI 1) hx hb dX0_replay_107 (by decide) ?_
            refine n_add hx hb dX0_replay_108 ?_
            refine lv_iload hx hb dX0_replay_109 (lv_at hl 2 rfl) ?_
            refine g_s_sv (by omega) hC hG dX0_replay_111 (fun H locs hG => ?_)
            refine lv_iinc (v := nI (f + 1)) (lv' := [(5, .int (nI (f + 1))), (3, .int (nI (k + 0))), (4, .int (nI 0)), (6, .int (nI (pic (FF M (f + 1))))), (0, .ref (ad 0)), (2, .int (nI ut))]) hx hb dX0_replay_112 hl (k := 3) rfl (inc1 _) (by decide) rfl (fun ls hl => ?_)
            refine lv_goto (tgt := 8) hx hb dX0_replay_115 (by decide) ?_
            exact ih ((up sc (f + 1) (pic (FF M (f + 1))))) b0 b1 b2 b3 b4 b5 (k + 0) 0 (f + 1) (by omega) (by omega) (by first | exact rInv_init (by omega) hpre | exact rInv_step hI (by omega) _ _ (by first | rw [if_pos h67] | rw [if_neg h67]) (by first | (simp; done) | (rw [if_pos ⟨by decide, by omega⟩]; done) | (rw [if_neg (by omega)]; done))) _ _ hG ls (lv_sub hl [0, 2, 1, 4, 5] rfl)
          · refine lv_iconst (v := nI 1) hx hb dX0_replay_70 (by decide) ?_
            refine lv_goto (tgt := 75) hx hb dX0_replay_71 (by decide) ?_
            refine lv_istore (lv' := [(4, .int (nI 1)), (6, .int (nI (pic (FF M (f + 1))))), (5, .int (nI f)), (3, .int (nI k)), (0, .ref (ad 0)), (2, .int (nI ut))]) hx hb dX0_replay_75 hl (by decide) rfl (fun ls hl => ?_)
            refine lv_iload_n hx hb dX0_replay_77 rfl (lv_at hl 3 rfl) ?_
            refine lv_iload hx hb dX0_replay_78 (lv_at hl 0 rfl) ?_
            refine n_if_eq (by omega) hx hb (tgt := 98) dX0_replay_80 (by decide) (fun h80 => absurd h80 (by omega)) (fun h80 => ?_)
            refine lv_iload hx hb dX0_replay_83 (lv_at hl 2 rfl) ?_
            refine lv_iconst (v := nI 1) hx hb dX0_replay_85 (by decide) ?_
            refine n_add hx hb dX0_replay_86 ?_
            refine lv_aload_n hx hb dX0_replay_87 rfl (lv_at hl 4 rfl) ?_
            refine g_f_d hC hG dX0_replay_88 ?_
            refine n_icmp_gt (by omega) hx hb (tgt := 98) dX0_replay_91 (by decide) (fun h91 => ?_) (fun h91 => ?_)
            · refine lv_iconst (v := nI 0) hx hb dX0_replay_98 (by decide) ?_
              refine n_add hx hb dX0_replay_99 ?_
              refine lv_istore_n (lv' := [(3, .int (nI (k + 0))), (4, .int (nI 1)), (6, .int (nI (pic (FF M (f + 1))))), (5, .int (nI f)), (0, .ref (ad 0)), (2, .int (nI ut))]) hx hb dX0_replay_100 rfl hl (by decide) rfl (fun ls hl => ?_)
              refine lv_aload_n hx hb dX0_replay_101 rfl (lv_at hl 4 rfl) ?_
              refine g_f_sv hC hG dX0_replay_102 ?_
              refine lv_iload hx hb dX0_replay_105 (lv_at hl 3 rfl) ?_
              refine lv_iconst (v := nI 1) hx hb dX0_replay_107 (by decide) ?_
              refine n_add hx hb dX0_replay_108 ?_
              refine lv_iload hx hb dX0_replay_109 (lv_at hl 2 rfl) ?_
              refine g_s_sv (by omega) hC hG dX0_replay_111 (fun H locs hG => ?_)
              refine lv_iinc (v := nI (f + 1)) (lv' := [(5, .int (nI (f + 1))), (3, .int (nI (k + 0))), (4, .int (nI 1)), (6, .int (nI (pic (FF M (f + 1))))), (0, .ref (ad 0)), (2, .int (nI ut))]) hx hb dX0_replay_112 hl (k := 3) rfl (inc1 _) (by decide) rfl (fun ls hl => ?_)
              refine lv_goto (tgt := 8) hx hb dX0_replay_115 (by decide) ?_
              exact ih ((up sc (f + 1) (pic (FF M (f + 1))))) b0 b1 b2 b3 b4 b5 (k + 0) 1 (f + 1) (by omega) (by omega) (by first | exact rInv_init (by omega) hpre | exact rInv_step hI (by omega) _ _ (by first | rw [if_pos h67] | rw [if_neg h67]) (by first | (simp; done) | (rw [if_pos ⟨by decide, by omega⟩]; done) | (rw [if_neg (by omega)]; done))) _ _ hG ls (lv_sub hl [0, 2, 1, 4, 5] rfl)
            · refine lv_iconst (v := nI 1) hx hb dX0_replay_94 (by decide) ?_
              refine lv_goto (tgt := 99) hx hb dX0_replay_95 (by decide) ?_
              refine n_add hx hb dX0_replay_99 ?_
              refine lv_istore_n (lv' := [(3, .int (nI (k + 1))), (4, .int (nI 1)), (6, .int (nI (pic (FF M (f + 1))))), (5, .int (nI f)), (0, .ref (ad 0)), (2, .int (nI ut))]) hx hb dX0_replay_100 rfl hl (by decide) rfl (fun ls hl => ?_)
              refine lv_aload_n hx hb dX0_replay_101 rfl (lv_at hl 4 rfl) ?_
              refine g_f_sv hC hG dX0_replay_102 ?_
              refine lv_iload hx hb dX0_replay_105 (lv_at hl 3 rfl) ?_
              refine lv_iconst (v := nI 1) hx hb dX0_replay_107 (by decide) ?_
              refine n_add hx hb dX0_replay_108 ?_
              refine lv_iload hx hb dX0_replay_109 (lv_at hl 2 rfl) ?_
              refine g_s_sv (by omega) hC hG dX0_replay_111 (fun H locs hG => ?_)
              refine lv_iinc (v := nI (f + 1)) (lv' := [(5, .int (nI (f + 1))), (3, .int (nI (k + 1))), (4, .int (nI 1)), (6, .int (nI (pic (FF M (f + 1))))), (0, .ref (ad 0)), (2, .int (nI ut))]) hx hb dX0_replay_112 hl (k := 3) rfl (inc1 _) (by decide) rfl (fun ls hl => ?_)
              refine lv_goto (tgt := 8) hx hb dX0_replay_115 (by decide) ?_
              exact ih ((up sc (f + 1) (pic (FF M (f + 1))))) b0 b1 b2 b3 b4 b5 (k + 1) 1 (f + 1) (by omega) (by omega) (by first | exact rInv_init (by omega) hpre | exact rInv_step hI (by omega) _ _ (by first | rw [if_pos h67] | rw [if_neg h67]) (by first | (simp; done) | (rw [if_pos ⟨by decide, by omega⟩]; done) | (rw [if_neg (by omega)]; done))) _ _ hG ls (lv_sub hl [0, 2, 1, 4, 5] rfl)
        · refine lv_iload hx hb dX0_replay_21 (lv_at hl 1 rfl) ?_
          refine n_if_eq (by omega) hx hb (tgt := 118) dX0_replay_23 (by decide) (fun h23 => ?_) (fun h23 => ?_)
          · refine lv_iload_n hx hb dX0_replay_118 rfl (lv_at hl 2 rfl) ?_
            exact hret _ _ _ _ _ _ hG ((by first | (have hE := rInv_end hI hrest (Or.inl (by omega)); exact ⟨⟨sc, _, rfl, hE.1⟩, by rw [hE.2]⟩) | (have hE := rInv_end hI hrest (Or.inr ⟨by omega, h23⟩); exact ⟨⟨sc, _, rfl, hE.1⟩, by rw [hE.2]⟩))) rfl dX0_replay_119
          · have e0 : us f = U M 0 f := by simpa using hu 0 (by decide) f (by omega)
            have e1 : us (40 + f) = U M 1 f := by simpa using hu 1 (by decide) f (by omega)
            refine lv_aload_n hx hb dX0_replay_26 rfl (lv_at hl 3 rfl) ?_
            refine lv_aload_n hx hb dX0_replay_27 rfl (lv_at hl 3 rfl) ?_
            refine g_f_sv hC hG dX0_replay_28 ?_
            refine lv_iload hx hb dX0_replay_31 (lv_at hl 0 rfl) ?_
            refine g_l_sv (by omega) hC hG dX0_replay_33 ?_
            refine n_as (pic (FF M f)) (hI.2.2.2.1 f (Nat.le_refl _)) ?_
            refine lv_aload_n hx hb dX0_replay_34 rfl (lv_at hl 3 rfl) ?_
            refine g_f_us hC hG dX0_replay_35 ?_
            refine lv_iload hx hb dX0_replay_38 (lv_at hl 0 rfl) ?_
            refine g_l_us (by omega) hC hG dX0_replay_40 ?_
            refine n_as (U M 0 f) e0 ?_
            refine lv_aload_n hx hb dX0_replay_41 rfl (lv_at hl 3 rfl) ?_
            refine g_f_us hC hG dX0_replay_42 ?_
            refine lv_bipush (v := nI 40) hx hb dX0_replay_45 (by decide) ?_
            refine lv_iload hx hb dX0_replay_47 (lv_at hl 0 rfl) ?_
            refine n_add hx hb dX0_replay_49 ?_
            refine g_l_us (by omega) hC hG dX0_replay_50 ?_
            refine n_as (U M 1 f) e1 ?_
            refine xc_vi (n := 3) (rest := []) (ci := 0) (q0 := 0) hC hG (mX0_step l D ad ca ar us sc d a0 a1 a2 a3 a4 a5 (FF M f) (FF_ok M f) (U M 0 f) (U M 1 f) (U_lt hM (by decide) f (by omega)) (U_lt hM (by decide) f (by omega))) (lw_V q32 q34 qs1 q18 q35) (by decide +kernel) rfl rfl (by rw [hR]; exact ⟨Nat.le_of_ble_eq_true rfl, Nat.le_of_ble_eq_true rfl⟩) rfl rfl rfl hl.1 rfl (Nat.le_of_ble_eq_true rfl) dX0_replay_51 (fun r u H locs hp hG => ?_)
            obtain ⟨⟨⟨b0, b1, b2, b3, b4, b5⟩, rfl⟩, hr⟩ := hp
            have hr : r = nI (pic (FF M (f + 1))) := hr
            subst hr
            have hpl := pic_lt (FF_ok M (f + 1))
            have hsc := hI.2.2.2.2.1 (f + 1) (by omega) (by omega)
            have hsl := hsv (f + 1) (by omega)
            refine lv_istore (lv' := [(6, .int (nI (pic (FF M (f + 1))))), (5, .int (nI f)), (4, .int (nI df)), (3, .int (nI k)), (0, .ref (ad 0)), (2, .int (nI ut))]) hx hb dX0_replay_54 hl (by decide) rfl (fun ls hl => ?_)
            refine lv_iload hx hb dX0_replay_56 (lv_at hl 0 rfl) ?_
            refine lv_aload_n hx hb dX0_replay_58 rfl (lv_at hl 4 rfl) ?_
            refine g_f_sv hC hG dX0_replay_59 ?_
            refine lv_iload hx hb dX0_replay_62 (lv_at hl 1 rfl) ?_
            refine lv_iconst (v := nI 1) hx hb dX0_replay_64 (by decide) ?_
            refine n_add hx hb dX0_replay_65 ?_
            refine g_l_sv (by omega) hC hG dX0_replay_66 ?_
            refine n_icmp_eq (by omega) hx hb (tgt := 74) dX0_replay_67 (by decide) (fun h67 => ?_) (fun h67 => ?_)
            · refine lv_iconst (v := nI 0) hx hb dX0_replay_74 (by decide) ?_
              refine lv_istore (lv' := [(4, .int (nI 0)), (6, .int (nI (pic (FF M (f + 1))))), (5, .int (nI f)), (3, .int (nI k)), (0, .ref (ad 0)), (2, .int (nI ut))]) hx hb dX0_replay_75 hl (by decide) rfl (fun ls hl => ?_)
              refine lv_iload_n hx hb dX0_replay_77 rfl (lv_at hl 3 rfl) ?_
              refine lv_iload hx hb dX0_replay_78 (lv_at hl 0 rfl) ?_
              refine n_if_eq (by omega) hx hb (tgt := 98) dX0_replay_80 (by decide) (fun h80 => ?_) (fun h80 => absurd h80 (by omega))
              refine lv_iconst (v := nI 0) hx hb dX0_replay_98 (by decide) ?_
              refine n_add hx hb dX0_replay_99 ?_
              refine lv_istore_n (lv' := [(3, .int (nI (k + 0))), (4, .int (nI 0)), (6, .int (nI (pic (FF M (f + 1))))), (5, .int (nI f)), (0, .ref (ad 0)), (2, .int (nI ut))]) hx hb dX0_replay_100 rfl hl (by decide) rfl (fun ls hl => ?_)
              refine lv_aload_n hx hb dX0_replay_101 rfl (lv_at hl 4 rfl) ?_
              refine g_f_sv hC hG dX0_replay_102 ?_
              refine lv_iload hx hb dX0_replay_105 (lv_at hl 3 rfl) ?_
              refine lv_iconst (v := nI 1) hx hb dX0_replay_107 (by decide) ?_
              refine n_add hx hb dX0_replay_108 ?_
              refine lv_iload hx hb dX0_replay_109 (lv_at hl 2 rfl) ?_
              refine g_s_sv (by omega) hC hG dX0_replay_111 (fun H locs hG => ?_)
              refine lv_iinc (v := nI (f + 1)) (lv' := [(5, .int (nI (f + 1))), (3, .int (nI (k + 0))), (4, .int (nI 0)), (6, .int (nI (pic (FF M (f + 1))))), (0, .ref (ad 0)), (2, .int (nI ut))]) hx hb dX0_replay_112 hl (k := 3) rfl (inc1 _) (by decide) rfl (fun ls hl => ?_)
              refine lv_goto (tgt := 8) hx hb dX0_replay_115 (by decide) ?_
              exact ih ((up sc (f + 1) (pic (FF M (f + 1))))) b0 b1 b2 b3 b4 b5 (k + 0) 0 (f + 1) (by omega) (by omega) (by first | exact rInv_init (by omega) hpre | exact rInv_step hI (by omega) _ _ (by first | rw [if_pos h67] | rw [if_neg h67]) (by first | (simp; done) | (rw [if_pos ⟨by decide, by omega⟩]; done) | (rw [if_neg (by omega)]; done))) _ _ hG ls (lv_sub hl [0, 2, 1, 4, 5] rfl)
            · refine lv_iconst (v := nI 1) hx hb dX0_replay_70 (by decide) ?_
              refine lv_goto (tgt := 75) hx hb dX0_replay_71 (by decide) ?_
              refine lv_istore (lv' := [(4, .int (nI 1)), (6, .int (nI (pic (FF M (f + 1))))), (5, .int (nI f)), (3, .int (nI k)), (0, .ref (ad 0)), (2, .int (nI ut))]) hx hb dX0_replay_75 hl (by decide) rfl (fun ls hl => ?_)
              refine lv_iload_n hx hb dX0_replay_77 rfl (lv_at hl 3 rfl) ?_
              refine lv_iload hx hb dX0_replay_78 (lv_at hl 0 rfl) ?_
              refine n_if_eq (by omega) hx hb (tgt := 98) dX0_replay_80 (by decide) (fun h80 => absurd h80 (by omega)) (fun h80 => ?_)
              refine lv_iload hx hb dX0_replay_83 (lv_at hl 2 rfl) ?_
              refine lv_iconst (v := nI 1) hx hb dX0_replay_85 (by decide) ?_
              refine n_add hx hb dX0_replay_86 ?_
              refine lv_aload_n hx hb dX0_replay_87 rfl (lv_at hl 4 rfl) ?_
              refine g_f_d hC hG dX0_replay_88 ?_
              refine n_icmp_gt (by omega) hx hb (tgt := 98) dX0_replay_91 (by decide) (fun h91 => ?_) (fun h91 => ?_)
              · refine lv_iconst (v := nI 0) hx hb dX0_replay_98 (by decide) ?_
                refine n_add hx hb dX0_replay_99 ?_
                refine lv_istore_n (lv' := [(3, .int (nI (k + 0))), (4, .int (nI 1)), (6, .int (nI (pic (FF M (f + 1))))), (5, .int (nI f)), (0, .ref (ad 0)), (2, .int (nI ut))]) hx hb dX0_replay_100 rfl hl (by decide) rfl (fun ls hl => ?_)
                refine lv_aload_n hx hb dX0_replay_101 rfl (lv_at hl 4 rfl) ?_
                refine g_f_sv hC hG dX0_replay_102 ?_
                refine lv_iload hx hb dX0_replay_105 (lv_at hl 3 rfl) ?_
                refine lv_iconst (v := nI 1) hx hb dX0_replay_107 (by decide) ?_
                refine n_add hx hb dX0_replay_108 ?_
                refine lv_iload hx hb dX0_replay_109 (lv_at hl 2 rfl) ?_
                refine g_s_sv (by omega) hC hG dX0_replay_111 (fun H locs hG => ?_)
                refine lv_iinc (v := nI (f + 1)) (lv' := [(5, .int (nI (f + 1))), (3, .int (nI (k + 0))), (4, .int (nI 1)), (6, .int (nI (pic (FF M (f + 1))))), (0, .ref (ad 0)), (2, .int (nI ut))]) hx hb dX0_replay_112 hl (k := 3) rfl (inc1 _) (by decide) rfl (fun ls hl => ?_)
                refine lv_goto (tgt := 8) hx hb dX0_replay_115 (by decide) ?_
                exact ih ((up sc (f + 1) (pic (FF M (f + 1))))) b0 b1 b2 b3 b4 b5 (k + 0) 1 (f + 1) (by omega) (by omega) (by first | exact rInv_init (by omega) hpre | exact rInv_step hI (by omega) _ _ (by first | rw [if_pos h67] | rw [if_neg h67]) (by first | (simp; done) | (rw [if_pos ⟨by decide, by omega⟩]; done) | (rw [if_neg (by omega)]; done))) _ _ hG ls (lv_sub hl [0, 2, 1, 4, 5] rfl)
              · refine lv_iconst (v := nI 1) hx hb dX0_replay_94 (by decide) ?_
                refine lv_goto (tgt := 99) hx hb dX0_replay_95 (by decide) ?_
                refine n_add hx hb dX0_replay_99 ?_
                refine lv_istore_n (lv' := [(3, .int (nI (k + 1))), (4, .int (nI 1)), (6, .int (nI (pic (FF M (f + 1))))), (5, .int (nI f)), (0, .ref (ad 0)), (2, .int (nI ut))]) hx hb dX0_replay_100 rfl hl (by decide) rfl (fun ls hl => ?_)
                refine lv_aload_n hx hb dX0_replay_101 rfl (lv_at hl 4 rfl) ?_
                refine g_f_sv hC hG dX0_replay_102 ?_
                refine lv_iload hx hb dX0_replay_105 (lv_at hl 3 rfl) ?_
                refine lv_iconst (v := nI 1) hx hb dX0_replay_107 (by decide) ?_
                refine n_add hx hb dX0_replay_108 ?_
                refine lv_iload hx hb dX0_replay_109 (lv_at hl 2 rfl) ?_
                refine g_s_sv (by omega) hC hG dX0_replay_111 (fun H locs hG => ?_)
                refine lv_iinc (v := nI (f + 1)) (lv' := [(5, .int (nI (f + 1))), (3, .int (nI (k + 1))), (4, .int (nI 1)), (6, .int (nI (pic (FF M (f + 1))))), (0, .ref (ad 0)), (2, .int (nI ut))]) hx hb dX0_replay_112 hl (k := 3) rfl (inc1 _) (by decide) rfl (fun ls hl => ?_)
                refine lv_goto (tgt := 8) hx hb dX0_replay_115 (by decide) ?_
                exact ih ((up sc (f + 1) (pic (FF M (f + 1))))) b0 b1 b2 b3 b4 b5 (k + 1) 1 (f + 1) (by omega) (by omega) (by first | exact rInv_init (by omega) hpre | exact rInv_step hI (by omega) _ _ (by first | rw [if_pos h67] | rw [if_neg h67]) (by first | (simp; done) | (rw [if_pos ⟨by decide, by omega⟩]; done) | (rw [if_neg (by omega)]; done))) _ _ hG ls (lv_sub hl [0, 2, 1, 4, 5] rfl)
  refine lv_iconst (v := nI 0) hx hb dX0_replay_0 (by decide) ?_
  refine lv_istore_n (lv' := [(3, .int (nI 0)), (0, .ref (ad 0)), (1, .int (nI fr)), (2, .int (nI ut))]) hx hb dX0_replay_1 rfl hl (by decide) rfl (fun ls hl => ?_)
  refine lv_iconst (v := nI 1) hx hb dX0_replay_2 (by decide) ?_
  refine lv_istore (lv' := [(4, .int (nI 1)), (3, .int (nI 0)), (0, .ref (ad 0)), (1, .int (nI fr)), (2, .int (nI ut))]) hx hb dX0_replay_3 hl (by decide) rfl (fun ls hl => ?_)
  refine lv_iload_n hx hb dX0_replay_5 rfl (lv_at hl 3 rfl) ?_
  refine lv_istore (lv' := [(5, .int (nI fr)), (4, .int (nI 1)), (3, .int (nI 0)), (0, .ref (ad 0)), (1, .int (nI fr)), (2, .int (nI ut))]) hx hb dX0_replay_6 hl (by decide) rfl (fun ls hl => ?_)
  exact J8 41 sv p0 p1 h0 h1 w0 w1 0 1 fr (by omega) (by omega) (by first | exact rInv_init (by omega) hpre | exact rInv_step hI (by omega) _ _ (by first | rw [if_pos h67] | rw [if_neg h67]) (by first | (simp; done) | (rw [if_pos ⟨by decide, by omega⟩]; done) | (rw [if_neg (by omega)]; done))) _ _ hG ls (lv_sub hl [0, 1, 2, 3, 5] rfl)
end
section
/-! X0: what the law calls -/

set_option maxHeartbeats 4000000 in
set_option maxRecDepth 100000 in
theorem mX0_arrive (l : Launch) (D : va_G) (ad : Nat → Nat) (ca : Nat → ClassId) (ar us sv : Nat → Nat) (d p0 p1 h0 h1 w0 w1 : Nat) (M : Nat → Nat) (hOK : gOK M d ar us sv) (x1 x2 x3 : Int32) : XMi l yX0_arrive (ws_ yX0_arrive cX0_arrive 5 (some .int)) ({ frames := 3, cells := 0, slots := 0, locals := 76 }) D (gw ad ca) (gt ca) [.ref (ad 0), .int x1, .int x2, .int x3] (ar, us, sv, d, p0, p1, h0, h1, w0, w1) (fun r u => ∃ (M' ar' us' sv' : Nat → Nat) (z : Fi), u = (ar', us', sv', d, z) ∧ gOK M' d ar' us' sv' ∧ aArr M d x1 x2 x3 r M') := by
  refine xe_i (own := RX0) (by decide) rfl (Nat.le_of_ble_eq_true rfl) ?_
  intro p e s m below meth c A R args Q hR hC hret H locs hG ls hl
  obtain ⟨hx, hb, hml, hown, hts, hK, hA⟩ := id hC
  have hl : lv_has ls 5 [(0, .ref (ad 0)), (1, .int x1), (2, .int x2), (3, .int x3)] := hl
  obtain ⟨hd, hM, har, hu, hsv⟩ := id hOK
  refine lv_iload_n hx hb dX0_arrive_0 rfl (lv_at hl 1 rfl) ?_
  refine xc_si (n := 1) (rest := []) hC hG (mX0_isPlayer l D ad ca ar us sv d p0 p1 h0 h1 w0 w1 x1) (lw_S q85 q86 q18 q87) (by decide +kernel) rfl rfl (by rw [hR]; exact ⟨Nat.le_of_ble_eq_true rfl, Nat.le_of_ble_eq_true rfl⟩) rfl hl.1 rfl (Nat.le_of_ble_eq_true rfl) dX0_arrive_1 (fun r u H locs hp hG => ?_)
  obtain ⟨rfl, hp⟩ := hp
  rcases hp with ⟨rfl, j, hj, rfl⟩ | ⟨rfl, hB1⟩
  · refine n_if_eq (by omega) hx hb (tgt := 37) dX0_arrive_4 (by decide) (fun hq4 => absurd hq4 (by omega)) (fun hq4 => ?_)
    refine lv_iload_n hx hb dX0_arrive_7 rfl (lv_at hl 2 rfl) ?_
    refine xc_si (n := 1) (rest := []) hC hG (mX0_isFrame l D ad ca ar us sv d p0 p1 h0 h1 w0 w1 x2) (lw_S q88 q89 q18 q90) (by decide +kernel) rfl rfl (by rw [hR]; exact ⟨Nat.le_of_ble_eq_true rfl, Nat.le_of_ble_eq_true rfl⟩) rfl hl.1 rfl (Nat.le_of_ble_eq_true rfl) dX0_arrive_8 (fun r u H locs hp hG => ?_)
    obtain ⟨rfl, hp⟩ := hp
    rcases hp with ⟨rfl, f, hf, rfl⟩ | ⟨rfl, hB2⟩
    · refine n_if_eq (by omega) hx hb (tgt := 37) dX0_arrive_11 (by decide) (fun h11 => absurd h11 (by omega)) (fun h11 => ?_)
      refine lv_iload_n hx hb dX0_arrive_14 rfl (lv_at hl 3 rfl) ?_
      refine lv_if_lt hx hb (tgt := 37) dX0_arrive_15 (by decide) (fun h15 => ?_) (fun h15 => ?_)
      · refine lv_iconst (v := (-1)) hx hb dX0_arrive_37 (by decide) ?_
        exact hret _ _ _ _ _ _ hG (⟨M, ar, us, sv, _, rfl, hOK, Or.inr ⟨by first | exact noA1 hB1 | exact noA2 hB2 | exact noA3 h15 | exact noA4 h20 | exact noA5 hj hf (fun z => h34 (har1.2.mpr z)), rfl, rfl⟩⟩) rfl dX0_arrive_38
      · refine lv_iload_n hx hb dX0_arrive_18 rfl (lv_at hl 3 rfl) ?_
        refine lv_iconst (v := nI 3) hx hb dX0_arrive_19 (by decide) ?_
        refine lv_icmp_gt hx hb (tgt := 37) dX0_arrive_20 (by decide) (fun h20 => ?_) (fun h20 => ?_)
        · refine lv_iconst (v := (-1)) hx hb dX0_arrive_37 (by decide) ?_
          exact hret _ _ _ _ _ _ hG (⟨M, ar, us, sv, _, rfl, hOK, Or.inr ⟨by first | exact noA1 hB1 | exact noA2 hB2 | exact noA3 h15 | exact noA4 h20 | exact noA5 hj hf (fun z => h34 (har1.2.mpr z)), rfl, rfl⟩⟩) rfl dX0_arrive_38
        · obtain ⟨mo, hmo, rfl⟩ := inB_mk3 (n := 3) (by decide) h15 h20
          refine lv_aload_n hx hb dX0_arrive_23 rfl (lv_at hl 0 rfl) ?_
          refine g_f_ar hC hG dX0_arrive_24 ?_
          refine lv_iload_n hx hb dX0_arrive_27 rfl (lv_at hl 1 rfl) ?_
          refine lv_bipush (v := nI 40) hx hb dX0_arrive_28 (by decide) ?_
          refine n_mul hx hb dX0_arrive_30 ?_
          refine n_as (40 * j) (Nat.mul_comm _ _) ?_
          refine lv_iload_n hx hb dX0_arrive_31 rfl (lv_at hl 2 rfl) ?_
          refine n_add hx hb dX0_arrive_32 ?_
          have har1 := har (40 * j + f) (by omega)
          refine g_l_ar (by omega) hC hG dX0_arrive_33 ?_
          refine n_if_eq (by omega) hx hb (tgt := 39) dX0_arrive_34 (by decide) (fun h34 => ?_) (fun h34 => ?_)
          · have hN : uNew M (up M (40 * j + f) (mo + 1)) j f mo := ⟨hj, hf, hmo, har1.2.mp h34, rfl⟩
            refine lv_aload_n hx hb dX0_arrive_39 rfl (lv_at hl 0 rfl) ?_
            refine g_f_ar hC hG dX0_arrive_40 ?_
            refine lv_iload_n hx hb dX0_arrive_43 rfl (lv_at hl 1 rfl) ?_
            refine lv_bipush (v := nI 40) hx hb dX0_arrive_44 (by decide) ?_
            refine n_mul hx hb dX0_arrive_46 ?_
            refine n_as (40 * j) (Nat.mul_comm _ _) ?_
            refine lv_iload_n hx hb dX0_arrive_47 rfl (lv_at hl 2 rfl) ?_
            refine n_add hx hb dX0_arrive_48 ?_
            refine lv_iconst (v := nI 1) hx hb dX0_arrive_49 (by decide) ?_
            refine g_s_ar (by omega) (by omega) hC hG dX0_arrive_50 (fun H locs hG => ?_)
            refine lv_aload_n hx hb dX0_arrive_51 rfl (lv_at hl 0 rfl) ?_
            refine lv_iload_n hx hb dX0_arrive_52 rfl (lv_at hl 1 rfl) ?_
            refine lv_iload_n hx hb dX0_arrive_53 rfl (lv_at hl 2 rfl) ?_
            refine lv_iload_n hx hb dX0_arrive_54 rfl (lv_at hl 3 rfl) ?_
            refine xc_vi (n := 3) (rest := []) (ci := 0) (q0 := 0) hC hG (mX0_use l D ad ca ((up ar ((40 * j) + f) 1)) us sv d p0 p1 h0 h1 w0 w1 M (up M (40 * j + f) (mo + 1)) j f mo hN hM hu (ar_up hN har)) (lw_V q91 q93 qs6 q18 q94) (by decide +kernel) rfl rfl (by rw [hR]; exact ⟨Nat.le_of_ble_eq_true rfl, Nat.le_of_ble_eq_true rfl⟩) rfl rfl rfl hl.1 rfl (Nat.le_of_ble_eq_true rfl) dX0_arrive_55 (fun r u H locs hp hG => ?_)
            obtain ⟨us', ct, rfl, rfl, hE⟩ := hp
            have hc1 := hE.1
            have hc2 := hE.2.1
            refine lv_istore (lv' := [(4, .int (nI ct)), (0, .ref (ad 0)), (1, .int (nI j)), (2, .int (nI f)), (3, .int (nI mo))]) hx hb dX0_arrive_58 hl (by decide) rfl (fun ls hl => ?_)
            refine lv_iload hx hb dX0_arrive_60 (lv_at hl 0 rfl) ?_
            refine lv_iload_n hx hb dX0_arrive_62 rfl (lv_at hl 3 rfl) ?_
            refine n_icmp_le (by omega) hx hb (tgt := 76) dX0_arrive_63 (by decide) (fun h63 => ?_) (fun h63 => ?_)
            · refine lv_iconst (v := nI 0) hx hb dX0_arrive_76 (by decide) ?_
              exact hret _ _ _ _ _ _ hG ((by first | exact ⟨(up M (40 * j + f) (mo + 1)), _, us', sv, _, rfl, ⟨hd, uNew_5 hN hM, ar_up hN har, hE.2.2.1, fun n hn => by rw [hsv n hn, uEnd_same hE h63 n hn]⟩, arr_move hj hf hmo (har1.2.mp h34) rfl (same_cnt hd (uEnd_same hE h63)).symm⟩ | exact ⟨(up M (40 * j + f) (mo + 1)), _, us', sv', _, rfl, ⟨hd, uNew_5 hN hM, ar_up hN har, hE.2.2.1, hsv'⟩, arr_move hj hf hmo (har1.2.mp h34) rfl (rP_cnt hd hsv)⟩)) rfl dX0_arrive_77
            · refine lv_aload_n hx hb dX0_arrive_66 rfl (lv_at hl 1 rfl) ?_
              refine lv_iload_n hx hb dX0_arrive_67 rfl (lv_at hl 3 rfl) ?_
              refine lv_iload hx hb dX0_arrive_68 (lv_at hl 0 rfl) ?_
              refine xc_vi (n := 2) (rest := []) (ci := 0) (q0 := 0) hC hG (mX0_replay l D ad ca ((up ar ((40 * j) + f) 1)) us' sv d p0 p1 h0 h1 w0 w1 (up M (40 * j + f) (mo + 1)) f ct (by omega) hc2 hd (uNew_5 hN hM) hE.2.2.1 (fun n hn => by rw [hsv n hn]; have := pic_lt (FF_ok M n); omega) (uEnd_pre hE hsv hf) (uEnd_rest hE hsv)) (lw_V q28 q30 qs0 q18 q31) (by decide +kernel) rfl rfl (by rw [hR]; exact ⟨Nat.le_of_ble_eq_true rfl, Nat.le_of_ble_eq_true rfl⟩) rfl rfl rfl hl.1 rfl (Nat.le_of_ble_eq_true rfl) dX0_arrive_70 (fun r u H locs hp hG => ?_)
              obtain ⟨⟨sv', ⟨b0, b1, b2, b3, b4, b5⟩, rfl, hsv'⟩, rfl⟩ := hp
              refine lv_goto (tgt := 77) hx hb dX0_arrive_73 (by decide) ?_
              exact hret _ _ _ _ _ _ hG ((by first | exact ⟨(up M (40 * j + f) (mo + 1)), _, us', sv, _, rfl, ⟨hd, uNew_5 hN hM, ar_up hN har, hE.2.2.1, fun n hn => by rw [hsv n hn, uEnd_same hE h63 n hn]⟩, arr_move hj hf hmo (har1.2.mp h34) rfl (same_cnt hd (uEnd_same hE h63)).symm⟩ | exact ⟨(up M (40 * j + f) (mo + 1)), _, us', sv', _, rfl, ⟨hd, uNew_5 hN hM, ar_up hN har, hE.2.2.1, hsv'⟩, arr_move hj hf hmo (har1.2.mp h34) rfl (rP_cnt hd hsv)⟩)) rfl dX0_arrive_77
          · refine lv_iconst (v := (-1)) hx hb dX0_arrive_37 (by decide) ?_
            exact hret _ _ _ _ _ _ hG (⟨M, ar, us, sv, _, rfl, hOK, Or.inr ⟨by first | exact noA1 hB1 | exact noA2 hB2 | exact noA3 h15 | exact noA4 h20 | exact noA5 hj hf (fun z => h34 (har1.2.mpr z)), rfl, rfl⟩⟩) rfl dX0_arrive_38
    · refine n_if_eq (by omega) hx hb (tgt := 37) dX0_arrive_11 (by decide) (fun h11 => ?_) (fun h11 => absurd h11 (by omega))
      refine lv_iconst (v := (-1)) hx hb dX0_arrive_37 (by decide) ?_
      exact hret _ _ _ _ _ _ hG (⟨M, ar, us, sv, _, rfl, hOK, Or.inr ⟨by first | exact noA1 hB1 | exact noA2 hB2 | exact noA3 h15 | exact noA4 h20 | exact noA5 hj hf (fun z => h34 (har1.2.mpr z)), rfl, rfl⟩⟩) rfl dX0_arrive_38
  · refine n_if_eq (by omega) hx hb (tgt := 37) dX0_arrive_4 (by decide) (fun hq4 => ?_) (fun hq4 => absurd hq4 (by omega))
    refine lv_iconst (v := (-1)) hx hb dX0_arrive_37 (by decide) ?_
    exact hret _ _ _ _ _ _ hG (⟨M, ar, us, sv, _, rfl, hOK, Or.inr ⟨by first | exact noA1 hB1 | exact noA2 hB2 | exact noA3 h15 | exact noA4 h20 | exact noA5 hj hf (fun z => h34 (har1.2.mpr z)), rfl, rfl⟩⟩) rfl dX0_arrive_38

set_option maxHeartbeats 4000000 in
set_option maxRecDepth 100000 in
theorem mX0_tick (l : Launch) (D : va_G) (ad : Nat → Nat) (ca : Nat → ClassId) (ar us sv : Nat → Nat) (d p0 p1 h0 h1 w0 w1 : Nat) (M : Nat → Nat) (hOK : gOK M d ar us sv) : XMi l yX0_tick (ws_ yX0_tick cX0_tick 1 (some .int)) ({ frames := 0, cells := 0, slots := 0, locals := 0 }) D (gw ad ca) (gt ca) [.ref (ad 0)] (ar, us, sv, d, p0, p1, h0, h1, w0, w1) (fun r u => (d < 40 ∧ u = (ar, us, sv, d + 1, p0, p1, h0, h1, w0, w1) ∧ r = nI (d + 1)) ∨ (¬ d < 40 ∧ u = (ar, us, sv, d, p0, p1, h0, h1, w0, w1) ∧ r = -1)) := by
  refine xe_i (own := RX0) (by decide) rfl (Nat.le_of_ble_eq_true rfl) ?_
  intro p e s m below meth c A R args Q hR hC hret H locs hG ls hl
  obtain ⟨hx, hb, hml, hown, hts, hK, hA⟩ := id hC
  have hl : lv_has ls 1 [(0, .ref (ad 0))] := hl
  obtain ⟨hd, hM, har, hu, hsv⟩ := id hOK
  refine lv_aload_n hx hb dX0_tick_0 rfl (lv_at hl 0 rfl) ?_
  refine g_f_d hC hG dX0_tick_1 ?_
  refine lv_bipush (v := nI 40) hx hb dX0_tick_4 (by decide) ?_
  refine n_icmp_lt (by omega) hx hb (tgt := 11) dX0_tick_6 (by decide) (fun hq6 => ?_) (fun hq6 => ?_)
  · refine lv_aload_n hx hb dX0_tick_11 rfl (lv_at hl 0 rfl) ?_
    refine lv_dup hx hb dX0_tick_12 rfl ?_
    refine g_f_d hC hG dX0_tick_13 ?_
    refine lv_iconst (v := nI 1) hx hb dX0_tick_16 (by decide) ?_
    refine n_add hx hb dX0_tick_17 ?_
    refine g_p_d hC hG dX0_tick_18 (fun H locs hG => ?_)
    refine lv_aload_n hx hb dX0_tick_21 rfl (lv_at hl 0 rfl) ?_
    refine g_f_d hC hG dX0_tick_22 ?_
    exact hret _ _ _ _ _ _ hG ((by first | exact Or.inl ⟨hq6, rfl, rfl⟩ | exact Or.inr ⟨hq6, rfl, rfl⟩)) rfl dX0_tick_25
  · refine lv_iconst (v := (-1)) hx hb dX0_tick_9 (by decide) ?_
    exact hret _ _ _ _ _ _ hG ((by first | exact Or.inl ⟨hq6, rfl, rfl⟩ | exact Or.inr ⟨hq6, rfl, rfl⟩)) rfl dX0_tick_10

set_option maxHeartbeats 4000000 in
set_option maxRecDepth 100000 in
theorem mX0_played (l : Launch) (D : va_G) (ad : Nat → Nat) (ca : Nat → ClassId) (ar us sv : Nat → Nat) (d p0 p1 h0 h1 w0 w1 : Nat) : XMi l yX0_played (ws_ yX0_played cX0_played 1 (some .int)) ({ frames := 0, cells := 0, slots := 0, locals := 0 }) D (gw ad ca) (gt ca) [.ref (ad 0)] (ar, us, sv, d, p0, p1, h0, h1, w0, w1) (fun r u => u = (ar, us, sv, d, p0, p1, h0, h1, w0, w1) ∧ r = nI d) := by
  refine xe_i (own := RX0) (by decide) rfl (Nat.le_of_ble_eq_true rfl) ?_
  intro p e s m below meth c A R args Q hR hC hret H locs hG ls hl
  obtain ⟨hx, hb, hml, hown, hts, hK, hA⟩ := id hC
  have hl : lv_has ls 1 [(0, .ref (ad 0))] := hl
  refine lv_aload_n hx hb dX0_played_0 rfl (lv_at hl 0 rfl) ?_
  refine g_f_d hC hG dX0_played_1 ?_
  exact hret _ _ _ _ _ _ hG (⟨rfl, rfl⟩) rfl dX0_played_4

set_option maxHeartbeats 4000000 in
set_option maxRecDepth 100000 in
theorem mX0_firstMissing (l : Launch) (D : va_G) (ad : Nat → Nat) (ca : Nat → ClassId) (ar us sv : Nat → Nat) (d p0 p1 h0 h1 w0 w1 : Nat) (M : Nat → Nat) (hOK : gOK M d ar us sv) (j : Nat) (hj : j < 2) : XMi l yX0_firstMissing (ws_ yX0_firstMissing cX0_firstMissing 3 (some .int)) ({ frames := 0, cells := 0, slots := 0, locals := 0 }) D (gw ad ca) (gt ca) [.ref (ad 0), .int (nI j)] (ar, us, sv, d, p0, p1, h0, h1, w0, w1) (fun r u => u = (ar, us, sv, d, p0, p1, h0, h1, w0, w1) ∧ ∃ f, r = nI f ∧ fmIs M j f) := by
  refine xe_i (own := RX0) (by decide) rfl (Nat.le_of_ble_eq_true rfl) ?_
  intro p e s m below meth c A R args Q hR hC hret H locs hG ls hl
  obtain ⟨hx, hb, hml, hown, hts, hK, hA⟩ := id hC
  have hl : lv_has ls 3 [(0, .ref (ad 0)), (1, .int (nI j))] := hl
  obtain ⟨hd, hM, har, hu, hsv⟩ := id hOK
  have J2 : ∀ (n : Nat) (f : Nat), (41 ≤ f + n) → (f ≤ 40) → (∀ k, k < f → M (40 * j + k) ≠ 0) → ∀ (H : Heap) (locs : List Loc), xS D (gw ad ca) A s (ar, us, sv, d, p0, p1, h0, h1, w0, w1) H locs → ∀ ls : Array Slot, lv_has ls 3 [(2, .int (nI f)), (0, .ref (ad 0)), (1, .int (nI j))] → W p l e R s m args below meth c H locs 0 0 Q (F0 m 2 ls []) := by
    intro n
    induction n with
    | zero =>
      intro f hn hf40 hI
      exact absurd hn (by omega)
    | succ n ih =>
      intro f hn hf40 hI H locs hG ls hl
      refine lv_iload_n hx hb dX0_firstMissing_2 rfl (lv_at hl 0 rfl) ?_
      refine lv_bipush (v := nI 40) hx hb dX0_firstMissing_3 (by decide) ?_
      refine n_icmp_ge (by omega) hx hb (tgt := 28) dX0_firstMissing_5 (by decide) (fun hq5 => ?_) (fun hq5 => ?_)
      · refine lv_iload_n hx hb dX0_firstMissing_28 rfl (lv_at hl 0 rfl) ?_
        exact hret _ _ _ _ _ _ hG (⟨rfl, f, rfl, hf40, hI, fun hlt => by first | exact har1.2.mp h19 | omega⟩) rfl dX0_firstMissing_29
      · refine lv_aload_n hx hb dX0_firstMissing_8 rfl (lv_at hl 1 rfl) ?_
        refine g_f_ar hC hG dX0_firstMissing_9 ?_
        refine lv_iload_n hx hb dX0_firstMissing_12 rfl (lv_at hl 2 rfl) ?_
        refine lv_bipush (v := nI 40) hx hb dX0_firstMissing_13 (by decide) ?_
        refine n_mul hx hb dX0_firstMissing_15 ?_
        refine n_as (40 * j) (Nat.mul_comm _ _) ?_
        refine lv_iload_n hx hb dX0_firstMissing_16 rfl (lv_at hl 0 rfl) ?_
        refine n_add hx hb dX0_firstMissing_17 ?_
        have har1 := har (40 * j + f) (by omega)
        refine g_l_ar (by omega) hC hG dX0_firstMissing_18 ?_
        refine n_if_eq (by omega) hx hb (tgt := 28) dX0_firstMissing_19 (by decide) (fun h19 => ?_) (fun h19 => ?_)
        · refine lv_iload_n hx hb dX0_firstMissing_28 rfl (lv_at hl 0 rfl) ?_
          exact hret _ _ _ _ _ _ hG (⟨rfl, f, rfl, hf40, hI, fun hlt => by first | exact har1.2.mp h19 | omega⟩) rfl dX0_firstMissing_29
        · refine lv_iinc (v := nI (f + 1)) (lv' := [(2, .int (nI (f + 1))), (0, .ref (ad 0)), (1, .int (nI j))]) hx hb dX0_firstMissing_22 hl (k := 0) rfl (inc1 _) (by decide) rfl (fun ls hl => ?_)
          refine lv_goto (tgt := 2) hx hb dX0_firstMissing_25 (by decide) ?_
          exact ih (f + 1) (by omega) (by omega) (by first | exact lt_0 | exact lt_s hI (fun z => h19 (har1.2.mpr z))) _ _ hG ls (lv_sub hl [0, 1, 2] rfl)
  refine lv_iconst (v := nI 0) hx hb dX0_firstMissing_0 (by decide) ?_
  refine lv_istore_n (lv' := [(2, .int (nI 0)), (0, .ref (ad 0)), (1, .int (nI j))]) hx hb dX0_firstMissing_1 rfl hl (by decide) rfl (fun ls hl => ?_)
  exact J2 41 0 (by omega) (by omega) (by first | exact lt_0 | exact lt_s hI (fun z => h19 (har1.2.mpr z))) _ _ hG ls (lv_sub hl [0, 1, 2] rfl)

set_option maxHeartbeats 4000000 in
set_option maxRecDepth 100000 in
theorem mX0_sure (l : Launch) (D : va_G) (ad : Nat → Nat) (ca : Nat → ClassId) (ar us sv : Nat → Nat) (d p0 p1 h0 h1 w0 w1 : Nat) (M : Nat → Nat) (hOK : gOK M d ar us sv) : XMi l yX0_sure (ws_ yX0_sure cX0_sure 3 (some .int)) ({ frames := 1, cells := 0, slots := 0, locals := 22 }) D (gw ad ca) (gt ca) [.ref (ad 0)] (ar, us, sv, d, p0, p1, h0, h1, w0, w1) (fun r u => u = (ar, us, sv, d, p0, p1, h0, h1, w0, w1) ∧ ∃ f, r = nI f ∧ sureIs M f) := by
  refine xe_i (own := RX0) (by decide) rfl (Nat.le_of_ble_eq_true rfl) ?_
  intro p e s m below meth c A R args Q hR hC hret H locs hG ls hl
  obtain ⟨hx, hb, hml, hown, hts, hK, hA⟩ := id hC
  have hl : lv_has ls 3 [(0, .ref (ad 0))] := hl
  obtain ⟨hd, hM, har, hu, hsv⟩ := id hOK
  refine lv_aload_n hx hb dX0_sure_0 rfl (lv_at hl 0 rfl) ?_
  refine lv_iconst (v := nI 0) hx hb dX0_sure_1 (by decide) ?_
  refine xc_vi (n := 1) (rest := []) (ci := 0) (q0 := 0) hC hG (mX0_firstMissing l D ad ca ar us sv d p0 p1 h0 h1 w0 w1 M hOK 0 (by decide)) (lw_V q111 q113 qs8 q18 q114) (by decide +kernel) rfl rfl (by rw [hR]; exact ⟨Nat.le_of_ble_eq_true rfl, Nat.le_of_ble_eq_true rfl⟩) rfl rfl rfl hl.1 rfl (Nat.le_of_ble_eq_true rfl) dX0_sure_2 (fun r u H locs hp hG => ?_)
  obtain ⟨rfl, fa, rfl, hfa⟩ := hp
  have hfa40 := hfa.1
  refine lv_istore_n (lv' := [(1, .int (nI fa)), (0, .ref (ad 0))]) hx hb dX0_sure_5 rfl hl (by decide) rfl (fun ls hl => ?_)
  refine lv_aload_n hx hb dX0_sure_6 rfl (lv_at hl 1 rfl) ?_
  refine lv_iconst (v := nI 1) hx hb dX0_sure_7 (by decide) ?_
  refine xc_vi (n := 1) (rest := []) (ci := 0) (q0 := 0) hC hG (mX0_firstMissing l D ad ca ar us sv d p0 p1 h0 h1 w0 w1 M hOK 1 (by decide)) (lw_V q111 q113 qs8 q18 q114) (by decide +kernel) rfl rfl (by rw [hR]; exact ⟨Nat.le_of_ble_eq_true rfl, Nat.le_of_ble_eq_true rfl⟩) rfl rfl rfl hl.1 rfl (Nat.le_of_ble_eq_true rfl) dX0_sure_8 (fun r u H locs hp hG => ?_)
  obtain ⟨rfl, fb, rfl, hfb⟩ := hp
  have hfb40 := hfb.1
  refine lv_istore_n (lv' := [(2, .int (nI fb)), (1, .int (nI fa)), (0, .ref (ad 0))]) hx hb dX0_sure_11 rfl hl (by decide) rfl (fun ls hl => ?_)
  refine lv_iload_n hx hb dX0_sure_12 rfl (lv_at hl 1 rfl) ?_
  refine lv_iload_n hx hb dX0_sure_13 rfl (lv_at hl 0 rfl) ?_
  refine n_icmp_ge (by omega) hx hb (tgt := 21) dX0_sure_14 (by decide) (fun h14 => ?_) (fun h14 => ?_)
  · refine lv_iload_n hx hb dX0_sure_21 rfl (lv_at hl 0 rfl) ?_
    exact hret _ _ _ _ _ _ hG (⟨rfl, _, rfl, sure_of hfa hfb (by first | rw [if_pos (by omega)] | rw [if_neg (by omega)])⟩) rfl dX0_sure_22
  · refine lv_iload_n hx hb dX0_sure_17 rfl (lv_at hl 1 rfl) ?_
    refine lv_goto (tgt := 22) hx hb dX0_sure_18 (by decide) ?_
    exact hret _ _ _ _ _ _ hG (⟨rfl, _, rfl, sure_of hfa hfb (by first | rw [if_pos (by omega)] | rw [if_neg (by omega)])⟩) rfl dX0_sure_22

set_option maxHeartbeats 4000000 in
set_option maxRecDepth 100000 in
theorem mX0_position (l : Launch) (D : va_G) (ad : Nat → Nat) (ca : Nat → ClassId) (ar us sv : Nat → Nat) (d p0 p1 h0 h1 w0 w1 : Nat) (M : Nat → Nat) (hOK : gOK M d ar us sv) (x1 : Int32) : XMi l yX0_position (ws_ yX0_position cX0_position 2 (some .int)) ({ frames := 1, cells := 0, slots := 0, locals := 21 }) D (gw ad ca) (gt ca) [.ref (ad 0), .int x1] (ar, us, sv, d, p0, p1, h0, h1, w0, w1) (fun r u => (∃ z : Fi, u = (ar, us, sv, d, z)) ∧ aSel (FF M d).1 (FF M d).2.1 x1 r) := by
  refine xe_i (own := RX0) (by decide) rfl (Nat.le_of_ble_eq_true rfl) ?_
  intro p e s m below meth c A R args Q hR hC hret H locs hG ls hl
  obtain ⟨hx, hb, hml, hown, hts, hK, hA⟩ := id hC
  have hl : lv_has ls 2 [(0, .ref (ad 0)), (1, .int x1)] := hl
  obtain ⟨hd, hM, har, hu, hsv⟩ := id hOK
  refine lv_iload_n hx hb dX0_position_0 rfl (lv_at hl 1 rfl) ?_
  refine xc_si (n := 1) (rest := []) hC hG (mX0_isPlayer l D ad ca ar us sv d p0 p1 h0 h1 w0 w1 x1) (lw_S q85 q86 q18 q87) (by decide +kernel) rfl rfl (by rw [hR]; exact ⟨Nat.le_of_ble_eq_true rfl, Nat.le_of_ble_eq_true rfl⟩) rfl hl.1 rfl (Nat.le_of_ble_eq_true rfl) dX0_position_1 (fun r u H locs hp hG => ?_)
  obtain ⟨rfl, hp⟩ := hp
  rcases isP_cases hp with ⟨rfl, rfl⟩ | ⟨rfl, rfl⟩ | ⟨rfl, hB1⟩
  · refine n_if_ne (by omega) hx hb (tgt := 9) dX0_position_4 (by decide) (fun hq4 => ?_) (fun hq4 => absurd hq4 (by omega))
    refine lv_aload_n hx hb dX0_position_9 rfl (lv_at hl 0 rfl) ?_
    refine lv_aload_n hx hb dX0_position_10 rfl (lv_at hl 0 rfl) ?_
    refine g_f_sv hC hG dX0_position_11 ?_
    refine lv_aload_n hx hb dX0_position_14 rfl (lv_at hl 0 rfl) ?_
    refine g_f_d hC hG dX0_position_15 ?_
    refine g_l_sv (by omega) hC hG dX0_position_18 ?_
    refine n_as (pic (FF M d)) (hsv d (by omega)) ?_
    refine xc_vv (n := 1) (rest := []) (ci := 0) (q0 := 0) hC hG (mX0_loadF l D ad ca ar us sv d p0 p1 h0 h1 w0 w1 (FF M d) (FF_ok M d)) (lw_V q39 q41 qs2 q18 q42) (by decide +kernel) rfl rfl (by rw [hR]; exact ⟨Nat.le_of_ble_eq_true rfl, Nat.le_of_ble_eq_true rfl⟩) rfl rfl rfl hl.1 rfl (Nat.le_of_ble_eq_true rfl) dX0_position_19 (fun u H locs hp hG => ?_)
    obtain rfl := hp
    refine lv_aload_n hx hb dX0_position_22 rfl (lv_at hl 0 rfl) ?_
    refine g_f_pl hC hG dX0_position_23 ?_
    refine lv_iload_n hx hb dX0_position_26 rfl (lv_at hl 1 rfl) ?_
    refine g_l_p0 hC hG dX0_position_27 ?_
    exact hret _ _ _ _ _ _ hG (⟨⟨_, rfl⟩, by first | exact Or.inl ⟨rfl, rfl⟩ | exact Or.inr (Or.inl ⟨rfl, rfl⟩)⟩) rfl dX0_position_28
  · refine n_if_ne (by omega) hx hb (tgt := 9) dX0_position_4 (by decide) (fun hq4 => ?_) (fun hq4 => absurd hq4 (by omega))
    refine lv_aload_n hx hb dX0_position_9 rfl (lv_at hl 0 rfl) ?_
    refine lv_aload_n hx hb dX0_position_10 rfl (lv_at hl 0 rfl) ?_
    refine g_f_sv hC hG dX0_position_11 ?_
    refine lv_aload_n hx hb dX0_position_14 rfl (lv_at hl 0 rfl) ?_
    refine g_f_d hC hG dX0_position_15 ?_
    refine g_l_sv (by omega) hC hG dX0_position_18 ?_
    refine n_as (pic (FF M d)) (hsv d (by omega)) ?_
    refine xc_vv (n := 1) (rest := []) (ci := 0) (q0 := 0) hC hG (mX0_loadF l D ad ca ar us sv d p0 p1 h0 h1 w0 w1 (FF M d) (FF_ok M d)) (lw_V q39 q41 qs2 q18 q42) (by decide +kernel) rfl rfl (by rw [hR]; exact ⟨Nat.le_of_ble_eq_true rfl, Nat.le_of_ble_eq_true rfl⟩) rfl rfl rfl hl.1 rfl (Nat.le_of_ble_eq_true rfl) dX0_position_19 (fun u H locs hp hG => ?_)
    obtain rfl := hp
    refine lv_aload_n hx hb dX0_position_22 rfl (lv_at hl 0 rfl) ?_
    refine g_f_pl hC hG dX0_position_23 ?_
    refine lv_iload_n hx hb dX0_position_26 rfl (lv_at hl 1 rfl) ?_
    refine g_l_p1 hC hG dX0_position_27 ?_
    exact hret _ _ _ _ _ _ hG (⟨⟨_, rfl⟩, by first | exact Or.inl ⟨rfl, rfl⟩ | exact Or.inr (Or.inl ⟨rfl, rfl⟩)⟩) rfl dX0_position_28
  · refine n_if_ne (by omega) hx hb (tgt := 9) dX0_position_4 (by decide) (fun hq4 => absurd hq4 (by omega)) (fun hq4 => ?_)
    refine lv_iconst (v := (-1)) hx hb dX0_position_7 (by decide) ?_
    exact hret _ _ _ _ _ _ hG (⟨⟨_, rfl⟩, Or.inr (Or.inr ⟨hB1, rfl⟩)⟩) rfl dX0_position_8

set_option maxHeartbeats 4000000 in
set_option maxRecDepth 100000 in
theorem mX0_strength (l : Launch) (D : va_G) (ad : Nat → Nat) (ca : Nat → ClassId) (ar us sv : Nat → Nat) (d p0 p1 h0 h1 w0 w1 : Nat) (M : Nat → Nat) (hOK : gOK M d ar us sv) (x1 : Int32) : XMi l yX0_strength (ws_ yX0_strength cX0_strength 2 (some .int)) ({ frames := 1, cells := 0, slots := 0, locals := 21 }) D (gw ad ca) (gt ca) [.ref (ad 0), .int x1] (ar, us, sv, d, p0, p1, h0, h1, w0, w1) (fun r u => (∃ z : Fi, u = (ar, us, sv, d, z)) ∧ aSel (FF M d).2.2.1 (FF M d).2.2.2.1 x1 r) := by
  refine xe_i (own := RX0) (by decide) rfl (Nat.le_of_ble_eq_true rfl) ?_
  intro p e s m below meth c A R args Q hR hC hret H locs hG ls hl
  obtain ⟨hx, hb, hml, hown, hts, hK, hA⟩ := id hC
  have hl : lv_has ls 2 [(0, .ref (ad 0)), (1, .int x1)] := hl
  obtain ⟨hd, hM, har, hu, hsv⟩ := id hOK
  refine lv_iload_n hx hb dX0_strength_0 rfl (lv_at hl 1 rfl) ?_
  refine xc_si (n := 1) (rest := []) hC hG (mX0_isPlayer l D ad ca ar us sv d p0 p1 h0 h1 w0 w1 x1) (lw_S q85 q86 q18 q87) (by decide +kernel) rfl rfl (by rw [hR]; exact ⟨Nat.le_of_ble_eq_true rfl, Nat.le_of_ble_eq_true rfl⟩) rfl hl.1 rfl (Nat.le_of_ble_eq_true rfl) dX0_strength_1 (fun r u H locs hp hG => ?_)
  obtain ⟨rfl, hp⟩ := hp
  rcases isP_cases hp with ⟨rfl, rfl⟩ | ⟨rfl, rfl⟩ | ⟨rfl, hB1⟩
  · refine n_if_ne (by omega) hx hb (tgt := 9) dX0_strength_4 (by decide) (fun hq4 => ?_) (fun hq4 => absurd hq4 (by omega))
    refine lv_aload_n hx hb dX0_strength_9 rfl (lv_at hl 0 rfl) ?_
    refine lv_aload_n hx hb dX0_strength_10 rfl (lv_at hl 0 rfl) ?_
    refine g_f_sv hC hG dX0_strength_11 ?_
    refine lv_aload_n hx hb dX0_strength_14 rfl (lv_at hl 0 rfl) ?_
    refine g_f_d hC hG dX0_strength_15 ?_
    refine g_l_sv (by omega) hC hG dX0_strength_18 ?_
    refine n_as (pic (FF M d)) (hsv d (by omega)) ?_
    refine xc_vv (n := 1) (rest := []) (ci := 0) (q0 := 0) hC hG (mX0_loadF l D ad ca ar us sv d p0 p1 h0 h1 w0 w1 (FF M d) (FF_ok M d)) (lw_V q39 q41 qs2 q18 q42) (by decide +kernel) rfl rfl (by rw [hR]; exact ⟨Nat.le_of_ble_eq_true rfl, Nat.le_of_ble_eq_true rfl⟩) rfl rfl rfl hl.1 rfl (Nat.le_of_ble_eq_true rfl) dX0_strength_19 (fun u H locs hp hG => ?_)
    obtain rfl := hp
    refine lv_aload_n hx hb dX0_strength_22 rfl (lv_at hl 0 rfl) ?_
    refine g_f_po hC hG dX0_strength_23 ?_
    refine lv_iload_n hx hb dX0_strength_26 rfl (lv_at hl 1 rfl) ?_
    refine g_l_h0 hC hG dX0_strength_27 ?_
    exact hret _ _ _ _ _ _ hG (⟨⟨_, rfl⟩, by first | exact Or.inl ⟨rfl, rfl⟩ | exact Or.inr (Or.inl ⟨rfl, rfl⟩)⟩) rfl dX0_strength_28
  · refine n_if_ne (by omega) hx hb (tgt := 9) dX0_strength_4 (by decide) (fun hq4 => ?_) (fun hq4 => absurd hq4 (by omega))
    refine lv_aload_n hx hb dX0_strength_9 rfl (lv_at hl 0 rfl) ?_
    refine lv_aload_n hx hb dX0_strength_10 rfl (lv_at hl 0 rfl) ?_
    refine g_f_sv hC hG dX0_strength_11 ?_
    refine lv_aload_n hx hb dX0_strength_14 rfl (lv_at hl 0 rfl) ?_
    refine g_f_d hC hG dX0_strength_15 ?_
    refine g_l_sv (by omega) hC hG dX0_strength_18 ?_
    refine n_as (pic (FF M d)) (hsv d (by omega)) ?_
    refine xc_vv (n := 1) (rest := []) (ci := 0) (q0 := 0) hC hG (mX0_loadF l D ad ca ar us sv d p0 p1 h0 h1 w0 w1 (FF M d) (FF_ok M d)) (lw_V q39 q41 qs2 q18 q42) (by decide +kernel) rfl rfl (by rw [hR]; exact ⟨Nat.le_of_ble_eq_true rfl, Nat.le_of_ble_eq_true rfl⟩) rfl rfl rfl hl.1 rfl (Nat.le_of_ble_eq_true rfl) dX0_strength_19 (fun u H locs hp hG => ?_)
    obtain rfl := hp
    refine lv_aload_n hx hb dX0_strength_22 rfl (lv_at hl 0 rfl) ?_
    refine g_f_po hC hG dX0_strength_23 ?_
    refine lv_iload_n hx hb dX0_strength_26 rfl (lv_at hl 1 rfl) ?_
    refine g_l_h1 hC hG dX0_strength_27 ?_
    exact hret _ _ _ _ _ _ hG (⟨⟨_, rfl⟩, by first | exact Or.inl ⟨rfl, rfl⟩ | exact Or.inr (Or.inl ⟨rfl, rfl⟩)⟩) rfl dX0_strength_28
  · refine n_if_ne (by omega) hx hb (tgt := 9) dX0_strength_4 (by decide) (fun hq4 => absurd hq4 (by omega)) (fun hq4 => ?_)
    refine lv_iconst (v := (-1)) hx hb dX0_strength_7 (by decide) ?_
    exact hret _ _ _ _ _ _ hG (⟨⟨_, rfl⟩, Or.inr (Or.inr ⟨hB1, rfl⟩)⟩) rfl dX0_strength_8

set_option maxHeartbeats 4000000 in
set_option maxRecDepth 100000 in
theorem mX0_pause (l : Launch) (D : va_G) (ad : Nat → Nat) (ca : Nat → ClassId) (ar us sv : Nat → Nat) (d p0 p1 h0 h1 w0 w1 : Nat) (M : Nat → Nat) (hOK : gOK M d ar us sv) (x1 : Int32) : XMi l yX0_pause (ws_ yX0_pause cX0_pause 2 (some .int)) ({ frames := 1, cells := 0, slots := 0, locals := 21 }) D (gw ad ca) (gt ca) [.ref (ad 0), .int x1] (ar, us, sv, d, p0, p1, h0, h1, w0, w1) (fun r u => (∃ z : Fi, u = (ar, us, sv, d, z)) ∧ aSel (FF M d).2.2.2.2.1 (FF M d).2.2.2.2.2 x1 r) := by
  refine xe_i (own := RX0) (by decide) rfl (Nat.le_of_ble_eq_true rfl) ?_
  intro p e s m below meth c A R args Q hR hC hret H locs hG ls hl
  obtain ⟨hx, hb, hml, hown, hts, hK, hA⟩ := id hC
  have hl : lv_has ls 2 [(0, .ref (ad 0)), (1, .int x1)] := hl
  obtain ⟨hd, hM, har, hu, hsv⟩ := id hOK
  refine lv_iload_n hx hb dX0_pause_0 rfl (lv_at hl 1 rfl) ?_
  refine xc_si (n := 1) (rest := []) hC hG (mX0_isPlayer l D ad ca ar us sv d p0 p1 h0 h1 w0 w1 x1) (lw_S q85 q86 q18 q87) (by decide +kernel) rfl rfl (by rw [hR]; exact ⟨Nat.le_of_ble_eq_true rfl, Nat.le_of_ble_eq_true rfl⟩) rfl hl.1 rfl (Nat.le_of_ble_eq_true rfl) dX0_pause_1 (fun r u H locs hp hG => ?_)
  obtain ⟨rfl, hp⟩ := hp
  rcases isP_cases hp with ⟨rfl, rfl⟩ | ⟨rfl, rfl⟩ | ⟨rfl, hB1⟩
  · refine n_if_ne (by omega) hx hb (tgt := 9) dX0_pause_4 (by decide) (fun hq4 => ?_) (fun hq4 => absurd hq4 (by omega))
    refine lv_aload_n hx hb dX0_pause_9 rfl (lv_at hl 0 rfl) ?_
    refine lv_aload_n hx hb dX0_pause_10 rfl (lv_at hl 0 rfl) ?_
    refine g_f_sv hC hG dX0_pause_11 ?_
    refine lv_aload_n hx hb dX0_pause_14 rfl (lv_at hl 0 rfl) ?_
    refine g_f_d hC hG dX0_pause_15 ?_
    refine g_l_sv (by omega) hC hG dX0_pause_18 ?_
    refine n_as (pic (FF M d)) (hsv d (by omega)) ?_
    refine xc_vv (n := 1) (rest := []) (ci := 0) (q0 := 0) hC hG (mX0_loadF l D ad ca ar us sv d p0 p1 h0 h1 w0 w1 (FF M d) (FF_ok M d)) (lw_V q39 q41 qs2 q18 q42) (by decide +kernel) rfl rfl (by rw [hR]; exact ⟨Nat.le_of_ble_eq_true rfl, Nat.le_of_ble_eq_true rfl⟩) rfl rfl rfl hl.1 rfl (Nat.le_of_ble_eq_true rfl) dX0_pause_19 (fun u H locs hp hG => ?_)
    obtain rfl := hp
    refine lv_aload_n hx hb dX0_pause_22 rfl (lv_at hl 0 rfl) ?_
    refine g_f_pa hC hG dX0_pause_23 ?_
    refine lv_iload_n hx hb dX0_pause_26 rfl (lv_at hl 1 rfl) ?_
    refine g_l_w0 hC hG dX0_pause_27 ?_
    exact hret _ _ _ _ _ _ hG (⟨⟨_, rfl⟩, by first | exact Or.inl ⟨rfl, rfl⟩ | exact Or.inr (Or.inl ⟨rfl, rfl⟩)⟩) rfl dX0_pause_28
  · refine n_if_ne (by omega) hx hb (tgt := 9) dX0_pause_4 (by decide) (fun hq4 => ?_) (fun hq4 => absurd hq4 (by omega))
    refine lv_aload_n hx hb dX0_pause_9 rfl (lv_at hl 0 rfl) ?_
    refine lv_aload_n hx hb dX0_pause_10 rfl (lv_at hl 0 rfl) ?_
    refine g_f_sv hC hG dX0_pause_11 ?_
    refine lv_aload_n hx hb dX0_pause_14 rfl (lv_at hl 0 rfl) ?_
    refine g_f_d hC hG dX0_pause_15 ?_
    refine g_l_sv (by omega) hC hG dX0_pause_18 ?_
    refine n_as (pic (FF M d)) (hsv d (by omega)) ?_
    refine xc_vv (n := 1) (rest := []) (ci := 0) (q0 := 0) hC hG (mX0_loadF l D ad ca ar us sv d p0 p1 h0 h1 w0 w1 (FF M d) (FF_ok M d)) (lw_V q39 q41 qs2 q18 q42) (by decide +kernel) rfl rfl (by rw [hR]; exact ⟨Nat.le_of_ble_eq_true rfl, Nat.le_of_ble_eq_true rfl⟩) rfl rfl rfl hl.1 rfl (Nat.le_of_ble_eq_true rfl) dX0_pause_19 (fun u H locs hp hG => ?_)
    obtain rfl := hp
    refine lv_aload_n hx hb dX0_pause_22 rfl (lv_at hl 0 rfl) ?_
    refine g_f_pa hC hG dX0_pause_23 ?_
    refine lv_iload_n hx hb dX0_pause_26 rfl (lv_at hl 1 rfl) ?_
    refine g_l_w1 hC hG dX0_pause_27 ?_
    exact hret _ _ _ _ _ _ hG (⟨⟨_, rfl⟩, by first | exact Or.inl ⟨rfl, rfl⟩ | exact Or.inr (Or.inl ⟨rfl, rfl⟩)⟩) rfl dX0_pause_28
  · refine n_if_ne (by omega) hx hb (tgt := 9) dX0_pause_4 (by decide) (fun hq4 => absurd hq4 (by omega)) (fun hq4 => ?_)
    refine lv_iconst (v := (-1)) hx hb dX0_pause_7 (by decide) ?_
    exact hret _ _ _ _ _ _ hG (⟨⟨_, rfl⟩, Or.inr (Or.inr ⟨hB1, rfl⟩)⟩) rfl dX0_pause_8

set_option maxHeartbeats 4000000 in
set_option maxRecDepth 100000 in
theorem mX0_shown (l : Launch) (D : va_G) (ad : Nat → Nat) (ca : Nat → ClassId) (ar us sv : Nat → Nat) (d p0 p1 h0 h1 w0 w1 : Nat) (M : Nat → Nat) (hOK : gOK M d ar us sv) (x1 : Int32) : XMi l yX0_shown (ws_ yX0_shown cX0_shown 2 (some .int)) ({ frames := 0, cells := 0, slots := 0, locals := 0 }) D (gw ad ca) (gt ca) [.ref (ad 0), .int x1] (ar, us, sv, d, p0, p1, h0, h1, w0, w1) (fun r u => (∃ z : Fi, u = (ar, us, sv, d, z)) ∧ aIdx 41 (fun j => nI (pic (FF M j))) x1 r) := by
  refine xe_i (own := RX0) (by decide) rfl (Nat.le_of_ble_eq_true rfl) ?_
  intro p e s m below meth c A R args Q hR hC hret H locs hG ls hl
  obtain ⟨hx, hb, hml, hown, hts, hK, hA⟩ := id hC
  have hl : lv_has ls 2 [(0, .ref (ad 0)), (1, .int x1)] := hl
  obtain ⟨hd, hM, har, hu, hsv⟩ := id hOK
  refine lv_iload_n hx hb dX0_shown_0 rfl (lv_at hl 1 rfl) ?_
  refine lv_if_lt hx hb (tgt := 10) dX0_shown_1 (by decide) (fun hq1 => ?_) (fun hq1 => ?_)
  · refine lv_iconst (v := (-1)) hx hb dX0_shown_10 (by decide) ?_
    refine lv_goto (tgt := 20) hx hb dX0_shown_11 (by decide) ?_
    exact hret _ _ _ _ _ _ hG (⟨⟨_, rfl⟩, by first | exact Or.inl ⟨j, hj, rfl, by rw [hsv j (by omega)]⟩ | exact Or.inr ⟨inB_neg (by decide) hq1, rfl⟩ | exact Or.inr ⟨inB_big' (n := 40) (by decide) hq7, rfl⟩⟩) rfl dX0_shown_20
  · refine lv_iload_n hx hb dX0_shown_4 rfl (lv_at hl 1 rfl) ?_
    refine lv_bipush (v := nI 40) hx hb dX0_shown_5 (by decide) ?_
    refine lv_icmp_le hx hb (tgt := 14) dX0_shown_7 (by decide) (fun hq7 => ?_) (fun hq7 => ?_)
    · obtain ⟨j, hj, rfl⟩ := inB_mk' (n := 40) (by decide) hq1 hq7
      refine lv_aload_n hx hb dX0_shown_14 rfl (lv_at hl 0 rfl) ?_
      refine g_f_sv hC hG dX0_shown_15 ?_
      refine lv_iload_n hx hb dX0_shown_18 rfl (lv_at hl 1 rfl) ?_
      refine g_l_sv (by omega) hC hG dX0_shown_19 ?_
      exact hret _ _ _ _ _ _ hG (⟨⟨_, rfl⟩, by first | exact Or.inl ⟨j, hj, rfl, by rw [hsv j (by omega)]⟩ | exact Or.inr ⟨inB_neg (by decide) hq1, rfl⟩ | exact Or.inr ⟨inB_big' (n := 40) (by decide) hq7, rfl⟩⟩) rfl dX0_shown_20
    · refine lv_iconst (v := (-1)) hx hb dX0_shown_10 (by decide) ?_
      refine lv_goto (tgt := 20) hx hb dX0_shown_11 (by decide) ?_
      exact hret _ _ _ _ _ _ hG (⟨⟨_, rfl⟩, by first | exact Or.inl ⟨j, hj, rfl, by rw [hsv j (by omega)]⟩ | exact Or.inr ⟨inB_neg (by decide) hq1, rfl⟩ | exact Or.inr ⟨inB_big' (n := 40) (by decide) hq7, rfl⟩⟩) rfl dX0_shown_20

set_option maxHeartbeats 4000000 in
set_option maxRecDepth 100000 in
theorem mX0_move (l : Launch) (D : va_G) (ad : Nat → Nat) (ca : Nat → ClassId) (ar us sv : Nat → Nat) (d p0 p1 h0 h1 w0 w1 : Nat) (M : Nat → Nat) (hOK : gOK M d ar us sv) (x1 x2 : Int32) : XMi l yX0_move (ws_ yX0_move cX0_move 3 (some .int)) ({ frames := 1, cells := 0, slots := 0, locals := 20 }) D (gw ad ca) (gt ca) [.ref (ad 0), .int x1, .int x2] (ar, us, sv, d, p0, p1, h0, h1, w0, w1) (fun r u => (∃ z : Fi, u = (ar, us, sv, d, z)) ∧ aMove M x1 x2 r) := by
  refine xe_i (own := RX0) (by decide) rfl (Nat.le_of_ble_eq_true rfl) ?_
  intro p e s m below meth c A R args Q hR hC hret H locs hG ls hl
  obtain ⟨hx, hb, hml, hown, hts, hK, hA⟩ := id hC
  have hl : lv_has ls 3 [(0, .ref (ad 0)), (1, .int x1), (2, .int x2)] := hl
  obtain ⟨hd, hM, har, hu, hsv⟩ := id hOK
  refine lv_iload_n hx hb dX0_move_0 rfl (lv_at hl 1 rfl) ?_
  refine xc_si (n := 1) (rest := []) hC hG (mX0_isPlayer l D ad ca ar us sv d p0 p1 h0 h1 w0 w1 x1) (lw_S q85 q86 q18 q87) (by decide +kernel) rfl rfl (by rw [hR]; exact ⟨Nat.le_of_ble_eq_true rfl, Nat.le_of_ble_eq_true rfl⟩) rfl hl.1 rfl (Nat.le_of_ble_eq_true rfl) dX0_move_1 (fun r u H locs hp hG => ?_)
  obtain ⟨rfl, hp⟩ := hp
  rcases hp with ⟨rfl, j, hj, rfl⟩ | ⟨rfl, hB1⟩
  · refine n_if_eq (by omega) hx hb (tgt := 28) dX0_move_4 (by decide) (fun hq4 => absurd hq4 (by omega)) (fun hq4 => ?_)
    refine lv_iload_n hx hb dX0_move_7 rfl (lv_at hl 2 rfl) ?_
    refine xc_si (n := 1) (rest := []) hC hG (mX0_isFrame l D ad ca ar us sv d p0 p1 h0 h1 w0 w1 x2) (lw_S q88 q89 q18 q90) (by decide +kernel) rfl rfl (by rw [hR]; exact ⟨Nat.le_of_ble_eq_true rfl, Nat.le_of_ble_eq_true rfl⟩) rfl hl.1 rfl (Nat.le_of_ble_eq_true rfl) dX0_move_8 (fun r u H locs hp hG => ?_)
    obtain ⟨rfl, hp⟩ := hp
    rcases hp with ⟨rfl, f, hf, rfl⟩ | ⟨rfl, hB2⟩
    · refine n_if_eq (by omega) hx hb (tgt := 28) dX0_move_11 (by decide) (fun h11 => absurd h11 (by omega)) (fun h11 => ?_)
      refine lv_aload_n hx hb dX0_move_14 rfl (lv_at hl 0 rfl) ?_
      refine g_f_us hC hG dX0_move_15 ?_
      refine lv_iload_n hx hb dX0_move_18 rfl (lv_at hl 1 rfl) ?_
      refine lv_bipush (v := nI 40) hx hb dX0_move_19 (by decide) ?_
      refine n_mul hx hb dX0_move_21 ?_
      refine n_as (40 * j) (Nat.mul_comm _ _) ?_
      refine lv_iload_n hx hb dX0_move_22 rfl (lv_at hl 2 rfl) ?_
      refine n_add hx hb dX0_move_23 ?_
      refine g_l_us (by omega) hC hG dX0_move_24 ?_
      refine lv_goto (tgt := 29) hx hb dX0_move_25 (by decide) ?_
      exact hret _ _ _ _ _ _ hG (⟨⟨_, rfl⟩, by first | exact Or.inl ⟨j, f, hj, hf, rfl, rfl, by rw [hu j hj f hf]⟩ | exact Or.inr ⟨Or.inl hB1, rfl⟩ | exact Or.inr ⟨Or.inr hB2, rfl⟩⟩) rfl dX0_move_29
    · refine n_if_eq (by omega) hx hb (tgt := 28) dX0_move_11 (by decide) (fun h11 => ?_) (fun h11 => absurd h11 (by omega))
      refine lv_iconst (v := (-1)) hx hb dX0_move_28 (by decide) ?_
      exact hret _ _ _ _ _ _ hG (⟨⟨_, rfl⟩, by first | exact Or.inl ⟨j, f, hj, hf, rfl, rfl, by rw [hu j hj f hf]⟩ | exact Or.inr ⟨Or.inl hB1, rfl⟩ | exact Or.inr ⟨Or.inr hB2, rfl⟩⟩) rfl dX0_move_29
  · refine n_if_eq (by omega) hx hb (tgt := 28) dX0_move_4 (by decide) (fun hq4 => ?_) (fun hq4 => absurd hq4 (by omega))
    refine lv_iconst (v := (-1)) hx hb dX0_move_28 (by decide) ?_
    exact hret _ _ _ _ _ _ hG (⟨⟨_, rfl⟩, by first | exact Or.inl ⟨j, f, hj, hf, rfl, rfl, by rw [hu j hj f hf]⟩ | exact Or.inr ⟨Or.inl hB1, rfl⟩ | exact Or.inr ⟨Or.inr hB2, rfl⟩⟩) rfl dX0_move_29

set_option maxHeartbeats 4000000 in
set_option maxRecDepth 100000 in
theorem mX0_missing (l : Launch) (D : va_G) (ad : Nat → Nat) (ca : Nat → ClassId) (ar us sv : Nat → Nat) (d p0 p1 h0 h1 w0 w1 : Nat) (M : Nat → Nat) (hOK : gOK M d ar us sv) (x1 : Int32) : XMi l yX0_missing (ws_ yX0_missing cX0_missing 3 (some .int)) ({ frames := 1, cells := 0, slots := 0, locals := 22 }) D (gw ad ca) (gt ca) [.ref (ad 0), .int x1] (ar, us, sv, d, p0, p1, h0, h1, w0, w1) (fun r u => (∃ z : Fi, u = (ar, us, sv, d, z)) ∧ aMiss M x1 r) := by
  refine xe_i (own := RX0) (by decide) rfl (Nat.le_of_ble_eq_true rfl) ?_
  intro p e s m below meth c A R args Q hR hC hret H locs hG ls hl
  obtain ⟨hx, hb, hml, hown, hts, hK, hA⟩ := id hC
  have hl : lv_has ls 3 [(0, .ref (ad 0)), (1, .int x1)] := hl
  obtain ⟨hd, hM, har, hu, hsv⟩ := id hOK
  refine lv_iload_n hx hb dX0_missing_0 rfl (lv_at hl 1 rfl) ?_
  refine xc_si (n := 1) (rest := []) hC hG (mX0_isPlayer l D ad ca ar us sv d p0 p1 h0 h1 w0 w1 x1) (lw_S q85 q86 q18 q87) (by decide +kernel) rfl rfl (by rw [hR]; exact ⟨Nat.le_of_ble_eq_true rfl, Nat.le_of_ble_eq_true rfl⟩) rfl hl.1 rfl (Nat.le_of_ble_eq_true rfl) dX0_missing_1 (fun r u H locs hp hG => ?_)
  obtain ⟨rfl, hp⟩ := hp
  rcases hp with ⟨rfl, j, hj, rfl⟩ | ⟨rfl, hB1⟩
  · refine n_if_ne (by omega) hx hb (tgt := 9) dX0_missing_4 (by decide) (fun hq4 => ?_) (fun hq4 => absurd hq4 (by omega))
    refine lv_aload_n hx hb dX0_missing_9 rfl (lv_at hl 0 rfl) ?_
    refine lv_iload_n hx hb dX0_missing_10 rfl (lv_at hl 1 rfl) ?_
    refine xc_vi (n := 1) (rest := []) (ci := 0) (q0 := 0) hC hG (mX0_firstMissing l D ad ca ar us sv d p0 p1 h0 h1 w0 w1 M hOK j hj) (lw_V q111 q113 qs8 q18 q114) (by decide +kernel) rfl rfl (by rw [hR]; exact ⟨Nat.le_of_ble_eq_true rfl, Nat.le_of_ble_eq_true rfl⟩) rfl rfl rfl hl.1 rfl (Nat.le_of_ble_eq_true rfl) dX0_missing_11 (fun r u H locs hp hG => ?_)
    obtain ⟨rfl, f, rfl, hfm⟩ := hp
    have hfm40 := hfm.1
    refine lv_istore_n (lv' := [(2, .int (nI f)), (0, .ref (ad 0)), (1, .int (nI j))]) hx hb dX0_missing_14 rfl hl (by decide) rfl (fun ls hl => ?_)
    refine lv_iload_n hx hb dX0_missing_15 rfl (lv_at hl 0 rfl) ?_
    refine lv_bipush (v := nI 40) hx hb dX0_missing_16 (by decide) ?_
    refine n_icmp_ge (by omega) hx hb (tgt := 25) dX0_missing_18 (by decide) (fun h18 => ?_) (fun h18 => ?_)
    · refine lv_bipush (v := (-2)) hx hb dX0_missing_25 (by decide) ?_
      exact hret _ _ _ _ _ _ hG (⟨⟨_, rfl⟩, Or.inl ⟨j, f, hj, rfl, hfm, by first | rw [if_pos (by omega)] | rw [if_neg (by omega)]⟩⟩) rfl dX0_missing_27
    · refine lv_iload_n hx hb dX0_missing_21 rfl (lv_at hl 0 rfl) ?_
      refine lv_goto (tgt := 27) hx hb dX0_missing_22 (by decide) ?_
      exact hret _ _ _ _ _ _ hG (⟨⟨_, rfl⟩, Or.inl ⟨j, f, hj, rfl, hfm, by first | rw [if_pos (by omega)] | rw [if_neg (by omega)]⟩⟩) rfl dX0_missing_27
  · refine n_if_ne (by omega) hx hb (tgt := 9) dX0_missing_4 (by decide) (fun hq4 => absurd hq4 (by omega)) (fun hq4 => ?_)
    refine lv_iconst (v := (-1)) hx hb dX0_missing_7 (by decide) ?_
    exact hret _ _ _ _ _ _ hG (⟨⟨_, rfl⟩, Or.inr ⟨hB1, rfl⟩⟩) rfl dX0_missing_8

set_option maxHeartbeats 4000000 in
set_option maxRecDepth 100000 in
theorem mX0_winner (l : Launch) (D : va_G) (ad : Nat → Nat) (ca : Nat → ClassId) (ar us sv : Nat → Nat) (d p0 p1 h0 h1 w0 w1 : Nat) (M : Nat → Nat) (hOK : gOK M d ar us sv) (x1 : Int32) : XMi l yX0_winner (ws_ yX0_winner cX0_winner 2 (some .int)) ({ frames := 1, cells := 0, slots := 0, locals := 21 }) D (gw ad ca) (gt ca) [.ref (ad 0), .int x1] (ar, us, sv, d, p0, p1, h0, h1, w0, w1) (fun r u => (∃ z : Fi, u = (ar, us, sv, d, z)) ∧ aIdx 41 (fun j => fWin (FF M j)) x1 r) := by
  refine xe_i (own := RX0) (by decide) rfl (Nat.le_of_ble_eq_true rfl) ?_
  intro p e s m below meth c A R args Q hR hC hret H locs hG ls hl
  obtain ⟨hx, hb, hml, hown, hts, hK, hA⟩ := id hC
  have hl : lv_has ls 2 [(0, .ref (ad 0)), (1, .int x1)] := hl
  obtain ⟨hd, hM, har, hu, hsv⟩ := id hOK
  refine lv_iload_n hx hb dX0_winner_0 rfl (lv_at hl 1 rfl) ?_
  refine lv_if_lt hx hb (tgt := 10) dX0_winner_1 (by decide) (fun hq1 => ?_) (fun hq1 => ?_)
  · refine lv_iconst (v := (-1)) hx hb dX0_winner_10 (by decide) ?_
    exact hret _ _ _ _ _ _ hG (⟨⟨_, rfl⟩, by first | exact Or.inr ⟨inB_neg (by decide) hq1, rfl⟩ | exact Or.inr ⟨inB_big' (n := 40) (by decide) hq7, rfl⟩ | (refine Or.inl ⟨j, hj, rfl, ?_⟩; unfold fWin; grind)⟩) rfl dX0_winner_11
  · refine lv_iload_n hx hb dX0_winner_4 rfl (lv_at hl 1 rfl) ?_
    refine lv_bipush (v := nI 40) hx hb dX0_winner_5 (by decide) ?_
    refine lv_icmp_le hx hb (tgt := 12) dX0_winner_7 (by decide) (fun hq7 => ?_) (fun hq7 => ?_)
    · obtain ⟨j, hj, rfl⟩ := inB_mk' (n := 40) (by decide) hq1 hq7
      have hok := FF_ok M j
      unfold fOk at hok
      refine lv_aload_n hx hb dX0_winner_12 rfl (lv_at hl 0 rfl) ?_
      refine g_f_sv hC hG dX0_winner_13 ?_
      refine lv_iload_n hx hb dX0_winner_16 rfl (lv_at hl 1 rfl) ?_
      refine g_l_sv (by omega) hC hG dX0_winner_17 ?_
      refine n_as (pic (FF M j)) (hsv j (by omega)) ?_
      refine xc_si (n := 1) (rest := []) hC hG (mX0_isOverF l D ad ca ar us sv d p0 p1 h0 h1 w0 w1 (FF M j) (FF_ok M j)) (lw_S q36 q37 q18 q38) (by decide +kernel) rfl rfl (by rw [hR]; exact ⟨Nat.le_of_ble_eq_true rfl, Nat.le_of_ble_eq_true rfl⟩) rfl hl.1 rfl (Nat.le_of_ble_eq_true rfl) dX0_winner_18 (fun r u H locs hp hG => ?_)
      obtain ⟨rfl, hp⟩ := hp
      rcases hp with ⟨rfl, ho⟩ | ⟨rfl, ho⟩
      · refine n_if_ne (by omega) hx hb (tgt := 27) dX0_winner_21 (by decide) (fun h21 => ?_) (fun h21 => absurd h21 (by omega))
        refine lv_aload_n hx hb dX0_winner_27 rfl (lv_at hl 0 rfl) ?_
        refine lv_aload_n hx hb dX0_winner_28 rfl (lv_at hl 0 rfl) ?_
        refine g_f_sv hC hG dX0_winner_29 ?_
        refine lv_iload_n hx hb dX0_winner_32 rfl (lv_at hl 1 rfl) ?_
        refine g_l_sv (by omega) hC hG dX0_winner_33 ?_
        refine n_as (pic (FF M j)) (hsv j (by omega)) ?_
        refine xc_vv (n := 1) (rest := []) (ci := 0) (q0 := 0) hC hG (mX0_loadF l D ad ca ar us sv d p0 p1 h0 h1 w0 w1 (FF M j) (FF_ok M j)) (lw_V q39 q41 qs2 q18 q42) (by decide +kernel) rfl rfl (by rw [hR]; exact ⟨Nat.le_of_ble_eq_true rfl, Nat.le_of_ble_eq_true rfl⟩) rfl rfl rfl hl.1 rfl (Nat.le_of_ble_eq_true rfl) dX0_winner_34 (fun u H locs hp hG => ?_)
        obtain rfl := hp
        refine lv_aload_n hx hb dX0_winner_37 rfl (lv_at hl 0 rfl) ?_
        refine g_f_po hC hG dX0_winner_38 ?_
        refine lv_iconst (v := nI 0) hx hb dX0_winner_41 (by decide) ?_
        refine g_l_h0 hC hG dX0_winner_42 ?_
        refine n_if_ne (by omega) hx hb (tgt := 61) dX0_winner_43 (by decide) (fun h43 => ?_) (fun h43 => ?_)
        · refine lv_iconst (v := nI 0) hx hb dX0_winner_61 (by decide) ?_
          exact hret _ _ _ _ _ _ hG (⟨⟨_, rfl⟩, by first | exact Or.inr ⟨inB_neg (by decide) hq1, rfl⟩ | exact Or.inr ⟨inB_big' (n := 40) (by decide) hq7, rfl⟩ | (refine Or.inl ⟨j, hj, rfl, ?_⟩; unfold fWin; grind)⟩) rfl dX0_winner_62
        · refine lv_aload_n hx hb dX0_winner_46 rfl (lv_at hl 0 rfl) ?_
          refine g_f_po hC hG dX0_winner_47 ?_
          refine lv_iconst (v := nI 1) hx hb dX0_winner_50 (by decide) ?_
          refine g_l_h1 hC hG dX0_winner_51 ?_
          refine n_if_ne (by omega) hx hb (tgt := 59) dX0_winner_52 (by decide) (fun h52 => ?_) (fun h52 => ?_)
          · refine lv_iconst (v := nI 1) hx hb dX0_winner_59 (by decide) ?_
            exact hret _ _ _ _ _ _ hG (⟨⟨_, rfl⟩, by first | exact Or.inr ⟨inB_neg (by decide) hq1, rfl⟩ | exact Or.inr ⟨inB_big' (n := 40) (by decide) hq7, rfl⟩ | (refine Or.inl ⟨j, hj, rfl, ?_⟩; unfold fWin; grind)⟩) rfl dX0_winner_60
          · refine lv_iconst (v := nI 2) hx hb dX0_winner_55 (by decide) ?_
            refine lv_goto (tgt := 60) hx hb dX0_winner_56 (by decide) ?_
            exact hret _ _ _ _ _ _ hG (⟨⟨_, rfl⟩, by first | exact Or.inr ⟨inB_neg (by decide) hq1, rfl⟩ | exact Or.inr ⟨inB_big' (n := 40) (by decide) hq7, rfl⟩ | (refine Or.inl ⟨j, hj, rfl, ?_⟩; unfold fWin; grind)⟩) rfl dX0_winner_60
      · refine n_if_ne (by omega) hx hb (tgt := 27) dX0_winner_21 (by decide) (fun h21 => absurd h21 (by omega)) (fun h21 => ?_)
        refine lv_bipush (v := (-2)) hx hb dX0_winner_24 (by decide) ?_
        exact hret _ _ _ _ _ _ hG (⟨⟨_, rfl⟩, by first | exact Or.inr ⟨inB_neg (by decide) hq1, rfl⟩ | exact Or.inr ⟨inB_big' (n := 40) (by decide) hq7, rfl⟩ | (refine Or.inl ⟨j, hj, rfl, ?_⟩; unfold fWin; grind)⟩) rfl dX0_winner_26
    · refine lv_iconst (v := (-1)) hx hb dX0_winner_10 (by decide) ?_
      exact hret _ _ _ _ _ _ hG (⟨⟨_, rfl⟩, by first | exact Or.inr ⟨inB_neg (by decide) hq1, rfl⟩ | exact Or.inr ⟨inB_big' (n := 40) (by decide) hq7, rfl⟩ | (refine Or.inl ⟨j, hj, rfl, ?_⟩; unfold fWin; grind)⟩) rfl dX0_winner_11

set_option maxHeartbeats 4000000 in
set_option maxRecDepth 100000 in
theorem mX0_overAfter (l : Launch) (D : va_G) (ad : Nat → Nat) (ca : Nat → ClassId) (ar us sv : Nat → Nat) (d p0 p1 h0 h1 w0 w1 : Nat) (M : Nat → Nat) (hOK : gOK M d ar us sv) : XMi l yX0_overAfter (ws_ yX0_overAfter cX0_overAfter 2 (some .int)) ({ frames := 1, cells := 0, slots := 0, locals := 20 }) D (gw ad ca) (gt ca) [.ref (ad 0)] (ar, us, sv, d, p0, p1, h0, h1, w0, w1) (fun r u => (∃ z : Fi, u = (ar, us, sv, d, z)) ∧ aOver M r) := by
  refine xe_i (own := RX0) (by decide) rfl (Nat.le_of_ble_eq_true rfl) ?_
  intro p e s m below meth c A R args Q hR hC hret H locs hG ls hl
  obtain ⟨hx, hb, hml, hown, hts, hK, hA⟩ := id hC
  have hl : lv_has ls 2 [(0, .ref (ad 0))] := hl
  obtain ⟨hd, hM, har, hu, hsv⟩ := id hOK
  have J2 : ∀ (n : Nat) (f : Nat), (42 ≤ f + n) → (f ≤ 41) → (∀ k, k < f → ¬ fOver (FF M k)) → ∀ (H : Heap) (locs : List Loc), xS D (gw ad ca) A s (ar, us, sv, d, p0, p1, h0, h1, w0, w1) H locs → ∀ ls : Array Slot, lv_has ls 2 [(1, .int (nI f)), (0, .ref (ad 0))] → W p l e R s m args below meth c H locs 0 0 Q (F0 m 2 ls []) := by
    intro n
    induction n with
    | zero =>
      intro f hn hf40 hI
      exact absurd hn (by omega)
    | succ n ih =>
      intro f hn hf40 hI H locs hG ls hl
      refine lv_iload_n hx hb dX0_overAfter_2 rfl (lv_at hl 0 rfl) ?_
      refine lv_bipush (v := nI 40) hx hb dX0_overAfter_3 (by decide) ?_
      refine n_icmp_gt (by omega) hx hb (tgt := 28) dX0_overAfter_5 (by decide) (fun hq5 => ?_) (fun hq5 => ?_)
      · refine lv_bipush (v := (-2)) hx hb dX0_overAfter_28 (by decide) ?_
        exact hret _ _ _ _ _ _ hG (⟨⟨_, rfl⟩, Or.inr ⟨fun k hk => hI k (by omega), rfl⟩⟩) rfl dX0_overAfter_30
      · refine lv_aload_n hx hb dX0_overAfter_8 rfl (lv_at hl 1 rfl) ?_
        refine g_f_sv hC hG dX0_overAfter_9 ?_
        refine lv_iload_n hx hb dX0_overAfter_12 rfl (lv_at hl 0 rfl) ?_
        refine g_l_sv (by omega) hC hG dX0_overAfter_13 ?_
        refine n_as (pic (FF M f)) (hsv f (by omega)) ?_
        refine xc_si (n := 1) (rest := []) hC hG (mX0_isOverF l D ad ca ar us sv d p0 p1 h0 h1 w0 w1 (FF M f) (FF_ok M f)) (lw_S q36 q37 q18 q38) (by decide +kernel) rfl rfl (by rw [hR]; exact ⟨Nat.le_of_ble_eq_true rfl, Nat.le_of_ble_eq_true rfl⟩) rfl hl.1 rfl (Nat.le_of_ble_eq_true rfl) dX0_overAfter_14 (fun r u H locs hp hG => ?_)
        obtain ⟨rfl, hp⟩ := hp
        rcases hp with ⟨rfl, ho⟩ | ⟨rfl, ho⟩
        · refine n_if_eq (by omega) hx hb (tgt := 22) dX0_overAfter_17 (by decide) (fun h17 => absurd h17 (by omega)) (fun h17 => ?_)
          refine lv_iload_n hx hb dX0_overAfter_20 rfl (lv_at hl 0 rfl) ?_
          exact hret _ _ _ _ _ _ hG (⟨⟨_, rfl⟩, Or.inl ⟨f, by omega, ho, hI, rfl⟩⟩) rfl dX0_overAfter_21
        · refine n_if_eq (by omega) hx hb (tgt := 22) dX0_overAfter_17 (by decide) (fun h17 => ?_) (fun h17 => absurd h17 (by omega))
          refine lv_iinc (v := nI (f + 1)) (lv' := [(1, .int (nI (f + 1))), (0, .ref (ad 0))]) hx hb dX0_overAfter_22 hl (k := 0) rfl (inc1 _) (by decide) rfl (fun ls hl => ?_)
          refine lv_goto (tgt := 2) hx hb dX0_overAfter_25 (by decide) ?_
          exact ih (f + 1) (by omega) (by omega) (by first | exact lt_0 | exact lt_s hI ho) _ _ hG ls (lv_sub hl [0, 1] rfl)
  refine lv_iconst (v := nI 0) hx hb dX0_overAfter_0 (by decide) ?_
  refine lv_istore_n (lv' := [(1, .int (nI 0)), (0, .ref (ad 0))]) hx hb dX0_overAfter_1 rfl hl (by decide) rfl (fun ls hl => ?_)
  exact J2 42 0 (by omega) (by omega) (by first | exact lt_0 | exact lt_s hI ho) _ _ hG ls (lv_sub hl [0, 1] rfl)

set_option maxHeartbeats 4000000 in
set_option maxRecDepth 100000 in
theorem mX0_settled (l : Launch) (D : va_G) (ad : Nat → Nat) (ca : Nat → ClassId) (ar us sv : Nat → Nat) (d p0 p1 h0 h1 w0 w1 : Nat) (M : Nat → Nat) (hOK : gOK M d ar us sv) : XMi l yX0_settled (ws_ yX0_settled cX0_settled 2 (some .boolean)) ({ frames := 2, cells := 0, slots := 0, locals := 44 }) D (gw ad ca) (gt ca) [.ref (ad 0)] (ar, us, sv, d, p0, p1, h0, h1, w0, w1) (fun r u => (∃ z : Fi, u = (ar, us, sv, d, z)) ∧ aSet M d r) := by
  refine xe_i (own := RX0) (by decide) rfl (Nat.le_of_ble_eq_true rfl) ?_
  intro p e s m below meth c A R args Q hR hC hret H locs hG ls hl
  obtain ⟨hx, hb, hml, hown, hts, hK, hA⟩ := id hC
  have hl : lv_has ls 2 [(0, .ref (ad 0))] := hl
  obtain ⟨hd, hM, har, hu, hsv⟩ := id hOK
  refine lv_aload_n hx hb dX0_settled_0 rfl (lv_at hl 0 rfl) ?_
  refine xc_vi (n := 0) (rest := []) (ci := 0) (q0 := 0) hC hG (mX0_sure l D ad ca ar us sv d p0 p1 h0 h1 w0 w1 M hOK) (lw_V q151 q108 q109 q18 q110) (by decide +kernel) rfl rfl (by rw [hR]; exact ⟨Nat.le_of_ble_eq_true rfl, Nat.le_of_ble_eq_true rfl⟩) rfl rfl rfl hl.1 rfl (Nat.le_of_ble_eq_true rfl) dX0_settled_1 (fun r u H locs hp hG => ?_)
  obtain ⟨rfl, f, rfl, hs⟩ := hp
  have hs40 := hs.1
  refine lv_istore_n (lv' := [(1, .int (nI f)), (0, .ref (ad 0))]) hx hb dX0_settled_4 rfl hl (by decide) rfl (fun ls hl => ?_)
  refine lv_iload_n hx hb dX0_settled_5 rfl (lv_at hl 0 rfl) ?_
  refine lv_aload_n hx hb dX0_settled_6 rfl (lv_at hl 1 rfl) ?_
  refine g_f_d hC hG dX0_settled_7 ?_
  refine n_icmp_ge (by omega) hx hb (tgt := 25) dX0_settled_10 (by decide) (fun h10 => ?_) (fun h10 => ?_)
  · refine lv_iconst (v := nI 1) hx hb dX0_settled_25 (by decide) ?_
    refine lv_goto (tgt := 30) hx hb dX0_settled_26 (by decide) ?_
    exact hret _ _ _ _ _ _ hG (⟨⟨_, rfl⟩, f, hs, by first | exact Or.inl ⟨rfl, Or.inl h10⟩ | exact Or.inl ⟨rfl, Or.inr ho⟩ | exact Or.inr ⟨rfl, fun z => z.elim h10 ho⟩⟩) rfl dX0_settled_30
  · refine lv_aload_n hx hb dX0_settled_13 rfl (lv_at hl 1 rfl) ?_
    refine g_f_sv hC hG dX0_settled_14 ?_
    refine lv_iload_n hx hb dX0_settled_17 rfl (lv_at hl 0 rfl) ?_
    refine g_l_sv (by omega) hC hG dX0_settled_18 ?_
    refine n_as (pic (FF M f)) (hsv f (by omega)) ?_
    refine xc_si (n := 1) (rest := []) hC hG (mX0_isOverF l D ad ca ar us sv d p0 p1 h0 h1 w0 w1 (FF M f) (FF_ok M f)) (lw_S q36 q37 q18 q38) (by decide +kernel) rfl rfl (by rw [hR]; exact ⟨Nat.le_of_ble_eq_true rfl, Nat.le_of_ble_eq_true rfl⟩) rfl hl.1 rfl (Nat.le_of_ble_eq_true rfl) dX0_settled_19 (fun r u H locs hp hG => ?_)
    obtain ⟨rfl, hp⟩ := hp
    rcases hp with ⟨rfl, ho⟩ | ⟨rfl, ho⟩
    · refine n_if_eq (by omega) hx hb (tgt := 29) dX0_settled_22 (by decide) (fun h22 => absurd h22 (by omega)) (fun h22 => ?_)
      refine lv_iconst (v := nI 1) hx hb dX0_settled_25 (by decide) ?_
      refine lv_goto (tgt := 30) hx hb dX0_settled_26 (by decide) ?_
      exact hret _ _ _ _ _ _ hG (⟨⟨_, rfl⟩, f, hs, by first | exact Or.inl ⟨rfl, Or.inl h10⟩ | exact Or.inl ⟨rfl, Or.inr ho⟩ | exact Or.inr ⟨rfl, fun z => z.elim h10 ho⟩⟩) rfl dX0_settled_30
    · refine n_if_eq (by omega) hx hb (tgt := 29) dX0_settled_22 (by decide) (fun h22 => ?_) (fun h22 => absurd h22 (by omega))
      refine lv_iconst (v := nI 0) hx hb dX0_settled_29 (by decide) ?_
      exact hret _ _ _ _ _ _ hG (⟨⟨_, rfl⟩, f, hs, by first | exact Or.inl ⟨rfl, Or.inl h10⟩ | exact Or.inl ⟨rfl, Or.inr ho⟩ | exact Or.inr ⟨rfl, fun z => z.elim h10 ho⟩⟩) rfl dX0_settled_30
end
section
/-! more pure laws, for the model -/
theorem dec1r (a : Nat) : nI a + Int32.ofInt (-1) = nI a - nI 1 := by
  rw [Int32.sub_eq_add_neg]; rfl
theorem pred_neg {k : Nat} (hk : k < 1000000) : nI k - nI 1 < 0 ↔ k = 0 := by
  rw [Int32.lt_iff_toInt_lt, pk_sub_toInt (by omega) (by decide), show (0 : Int32).toInt = 0 by decide]
  omega
theorem used_init {M : Nat → Nat} {j f : Nat} (h : M (40 * j + f) = 0) : U M j f = if f = 0 then 0 else gs (U M j (f - 1)) := by
  by_cases e : f = 0
  · subst e; rw [if_pos rfl]; exact U_00 h
  · rw [if_neg e]; exact U_gs h (by omega)
theorem used_step {M : Nat → Nat} {j f k : Nat} (hk : ¬ k = 0) (h : U M j f = if k = 0 then 0 else gs (U M j (k - 1))) (h0 : M (40 * j + (k - 1)) = 0) : U M j f = if k - 1 = 0 then 0 else gs (U M j (k - 1 - 1)) := by
  rw [h, if_neg hk, used_init h0]
  by_cases e : k - 1 = 0
  · rw [if_pos e]; rfl
  · rw [if_neg e, gs_gs]
theorem used_ret {M : Nat → Nat} {j f k : Nat} (hk : ¬ k = 0) (h : U M j f = if k = 0 then 0 else gs (U M j (k - 1))) (h0 : ¬ M (40 * j + (k - 1)) = 0) : U M j f = gs (M (40 * j + (k - 1)) - 1) := by
  rw [h, if_neg hk, U_arr h0]
theorem FF_over {M : Nat → Nat} {f : Nat} (h : fOver (FF M f)) : ∀ n, f ≤ n → FF M n = FF M f := by
  intro n
  induction n with
  | zero => intro hn; rw [show f = 0 by omega]
  | succ n ih =>
    intro hn
    by_cases e : f = n + 1
    · rw [e]
    · have e2 := ih (by omega)
      show fNext (FF M n) _ _ = _
      rw [e2, fNext]
      exact if_pos h
theorem FF_step {M : Nat → Nat} {f : Nat} (h : ¬ fOver (FF M f)) : FF M (f + 1) = fStep (FF M f) (U M 0 f) (U M 1 f) := by
  show fNext (FF M f) _ _ = _
  rw [fNext]
  exact if_neg h
theorem cntK {P : Nat → Bool} {k : Nat} (hk : 1 ≤ k) : cnt P (k + 1 - 1) = cnt P (k - 1) + (if P k then 1 else 0) := by
  obtain ⟨i, rfl⟩ : ∃ i, k = i + 1 := ⟨k - 1, by omega⟩
  rfl
/-- a wish to walk: in the field, or out of it and not followed -/
def wTo (me m : Nat) (x : Int32) : Prop := x = nI (gTo me m) ∨ (gTo me m = me ∧ (x < 0 ∨ nI 9 < x))
theorem wTo_1 {me : Nat} (h : me ≤ 9) : wTo me 1 (nI me - nI 1) := by
  by_cases e : me = 0
  · subst e; exact Or.inr ⟨by decide, Or.inl (by decide)⟩
  · refine Or.inl ?_
    rw [pk_sub (by omega), gTo, if_pos ⟨rfl, by omega⟩]
theorem wTo_2 {me : Nat} (h : me ≤ 9) : wTo me 2 (nI (me + 1)) := by
  by_cases e : me = 9
  · subst e; exact Or.inr ⟨by decide, Or.inr (by decide)⟩
  · refine Or.inl ?_
    rw [gTo, if_neg (by omega), if_pos ⟨rfl, by omega⟩]
theorem wTo_0 {me m : Nat} (h1 : ¬ m = 1) (h2 : ¬ m = 2) : wTo me m (nI me) := by
  refine Or.inl ?_
  rw [gTo, if_neg (fun z => h1 z.1), if_neg (fun z => h2 z.1)]
section NR2
variable {p : Program} {l : Launch} {e : Env} {R : Room} {s : State} {m : MethodId} {args : Array Value} {below : List Frame} {meth : Method} {c : Code} {H : Heap} {locs : List Loc} {cells slots : Nat} {Q : State → Prop}
variable {cc : ByteArray} {pc : Nat} {ls : Array Slot} {rest : List Value} {a b : Nat}
theorem n_if_lt (ha : a < 2147483648) (hexec : p.tables.exec = Jvm.exec) (hb : c.code = cc) {off : Int} {tgt : Nat} (hdg : decode cc pc = .ok (.ifCond .lt off, 3)) (ht : (pc : Int) + off = (tgt : Int))
    (kt : a < 0 → W p l e R s m args below meth c H locs cells slots Q (F0 m tgt ls rest)) (kf : ¬ a < 0 → W p l e R s m args below meth c H locs cells slots Q (F0 m (pc + 3) ls rest)) : W p l e R s m args below meth c H locs cells slots Q (F0 m pc ls (.int (nI a) :: rest)) := lv_if_lt hexec hb hdg ht (fun h => absurd h (nI_pos (by omega))) (fun h => kf (by omega))
end NR2
theorem inB_big3 {x : Int32} {n : Nat} (hn : n + 1 < 2147483648) (h1 : nI n < x) : ¬ inB (n + 1) x := by
  rintro ⟨j, hj, rfl⟩
  rw [nI_ltI (by omega) (by omega)] at h1
  omega
end
section
/-! X1's own: player, frame, used, over, walk, step, play, picture -/

set_option maxHeartbeats 4000000 in
set_option maxRecDepth 100000 in
theorem mX1_player (l : Launch) (D : va_G) (ad : Nat → Nat) (ca : Nat → ClassId) (mv bf : Nat → Nat) (d p0 p1 h0 h1 w0 w1 : Nat) (x : Int32) : XMi l yX1_player (ws_ yX1_player cX1_player 2 (some .boolean)) ({ frames := 0, cells := 0, slots := 0, locals := 0 }) D (mw ad ca) (mt ca) [.ref (ad 0), .int x] (mv, bf, d, p0, p1, h0, h1, w0, w1) (fun r u => u = (mv, bf, d, p0, p1, h0, h1, w0, w1) ∧ ((r = nI 1 ∧ inB 2 x) ∨ (r = nI 0 ∧ ¬ inB 2 x))) := by
  refine xe_i (own := RX1) (by decide) rfl (Nat.le_of_ble_eq_true rfl) ?_
  intro p e s m below meth c A R args Q hR hC hret H locs hG ls hl
  obtain ⟨hx, hb, hml, hown, hts, hK, hA⟩ := id hC
  have hl : lv_has ls 2 [(0, .ref (ad 0)), (1, .int x)] := hl
  refine lv_iload_n hx hb dX1_player_0 rfl (lv_at hl 1 rfl) ?_
  refine lv_if_eq hx hb (tgt := 9) dX1_player_1 (by decide) (fun hq1 => ?_) (fun hq1 => ?_)
  · refine lv_iconst (v := nI 1) hx hb dX1_player_9 (by decide) ?_
    refine lv_goto (tgt := 14) hx hb dX1_player_10 (by decide) ?_
    exact hret _ _ _ _ _ _ hG (⟨rfl, by first | exact Or.inl ⟨rfl, inB2_0 hq1⟩ | exact Or.inl ⟨rfl, inB2_1 hq6⟩ | exact Or.inr ⟨rfl, inB2_n hq1 hq6⟩⟩) rfl dX1_player_14
  · refine lv_iload_n hx hb dX1_player_4 rfl (lv_at hl 1 rfl) ?_
    refine lv_iconst (v := nI 1) hx hb dX1_player_5 (by decide) ?_
    refine lv_icmp_ne hx hb (tgt := 13) dX1_player_6 (by decide) (fun hq6 => ?_) (fun hq6 => ?_)
    · refine lv_iconst (v := nI 0) hx hb dX1_player_13 (by decide) ?_
      exact hret _ _ _ _ _ _ hG (⟨rfl, by first | exact Or.inl ⟨rfl, inB2_0 hq1⟩ | exact Or.inl ⟨rfl, inB2_1 hq6⟩ | exact Or.inr ⟨rfl, inB2_n hq1 hq6⟩⟩) rfl dX1_player_14
    · refine lv_iconst (v := nI 1) hx hb dX1_player_9 (by decide) ?_
      refine lv_goto (tgt := 14) hx hb dX1_player_10 (by decide) ?_
      exact hret _ _ _ _ _ _ hG (⟨rfl, by first | exact Or.inl ⟨rfl, inB2_0 hq1⟩ | exact Or.inl ⟨rfl, inB2_1 hq6⟩ | exact Or.inr ⟨rfl, inB2_n hq1 hq6⟩⟩) rfl dX1_player_14

set_option maxHeartbeats 4000000 in
set_option maxRecDepth 100000 in
theorem mX1_frame (l : Launch) (D : va_G) (ad : Nat → Nat) (ca : Nat → ClassId) (mv bf : Nat → Nat) (d p0 p1 h0 h1 w0 w1 : Nat) (x : Int32) : XMi l yX1_frame (ws_ yX1_frame cX1_frame 2 (some .boolean)) ({ frames := 0, cells := 0, slots := 0, locals := 0 }) D (mw ad ca) (mt ca) [.ref (ad 0), .int x] (mv, bf, d, p0, p1, h0, h1, w0, w1) (fun r u => u = (mv, bf, d, p0, p1, h0, h1, w0, w1) ∧ ((r = nI 1 ∧ inB 40 x) ∨ (r = nI 0 ∧ ¬ inB 40 x))) := by
  refine xe_i (own := RX1) (by decide) rfl (Nat.le_of_ble_eq_true rfl) ?_
  intro p e s m below meth c A R args Q hR hC hret H locs hG ls hl
  obtain ⟨hx, hb, hml, hown, hts, hK, hA⟩ := id hC
  have hl : lv_has ls 2 [(0, .ref (ad 0)), (1, .int x)] := hl
  refine lv_iload_n hx hb dX1_frame_0 rfl (lv_at hl 1 rfl) ?_
  refine lv_if_lt hx hb (tgt := 14) dX1_frame_1 (by decide) (fun hq1 => ?_) (fun hq1 => ?_)
  · refine lv_iconst (v := nI 0) hx hb dX1_frame_14 (by decide) ?_
    exact hret _ _ _ _ _ _ hG (⟨rfl, by first | exact Or.inl ⟨rfl, inB_mk3 (n := 39) (by decide) hq1 hq7⟩ | exact Or.inr ⟨rfl, inB_neg (by decide) hq1⟩ | exact Or.inr ⟨rfl, inB_big3 (n := 39) (by decide) hq7⟩⟩) rfl dX1_frame_15
  · refine lv_iload_n hx hb dX1_frame_4 rfl (lv_at hl 1 rfl) ?_
    refine lv_bipush (v := nI 39) hx hb dX1_frame_5 (by decide) ?_
    refine lv_icmp_gt hx hb (tgt := 14) dX1_frame_7 (by decide) (fun hq7 => ?_) (fun hq7 => ?_)
    · refine lv_iconst (v := nI 0) hx hb dX1_frame_14 (by decide) ?_
      exact hret _ _ _ _ _ _ hG (⟨rfl, by first | exact Or.inl ⟨rfl, inB_mk3 (n := 39) (by decide) hq1 hq7⟩ | exact Or.inr ⟨rfl, inB_neg (by decide) hq1⟩ | exact Or.inr ⟨rfl, inB_big3 (n := 39) (by decide) hq7⟩⟩) rfl dX1_frame_15
    · refine lv_iconst (v := nI 1) hx hb dX1_frame_10 (by decide) ?_
      refine lv_goto (tgt := 15) hx hb dX1_frame_11 (by decide) ?_
      exact hret _ _ _ _ _ _ hG (⟨rfl, by first | exact Or.inl ⟨rfl, inB_mk3 (n := 39) (by decide) hq1 hq7⟩ | exact Or.inr ⟨rfl, inB_neg (by decide) hq1⟩ | exact Or.inr ⟨rfl, inB_big3 (n := 39) (by decide) hq7⟩⟩) rfl dX1_frame_15

set_option maxHeartbeats 4000000 in
set_option maxRecDepth 100000 in
theorem mX1_used (l : Launch) (D : va_G) (ad : Nat → Nat) (ca : Nat → ClassId) (mv bf : Nat → Nat) (d p0 p1 h0 h1 w0 w1 : Nat) (hM : ∀ i, i < 80 → mv i < 5) (j f : Nat) (hj : j < 2) (hf : f < 40) : XMi l yX1_used (ws_ yX1_used cX1_used 5 (some .int)) ({ frames := 0, cells := 0, slots := 0, locals := 0 }) D (mw ad ca) (mt ca) [.ref (ad 0), .int (nI j), .int (nI f)] (mv, bf, d, p0, p1, h0, h1, w0, w1) (fun r u => u = (mv, bf, d, p0, p1, h0, h1, w0, w1) ∧ r = nI (U mv j f)) := by
  refine xe_i (own := RX1) (by decide) rfl (Nat.le_of_ble_eq_true rfl) ?_
  intro p e s m below meth c A R args Q hR hC hret H locs hG ls hl
  obtain ⟨hx, hb, hml, hown, hts, hK, hA⟩ := id hC
  have hl : lv_has ls 5 [(0, .ref (ad 0)), (1, .int (nI j)), (2, .int (nI f))] := hl
  have J32 : ∀ (n : Nat) (kk : Nat), (kk + 1 ≤ n) → (kk ≤ f) → (U mv j f = if kk = 0 then 0 else gs (U mv j (kk - 1))) → ∀ (H : Heap) (locs : List Loc), xS D (mw ad ca) A s (mv, bf, d, p0, p1, h0, h1, w0, w1) H locs → ∀ ls : Array Slot, lv_has ls 5 [(3, .int (nI kk - nI 1)), (0, .ref (ad 0)), (1, .int (nI j))] → W p l e R s m args below meth c H locs 0 0 Q (F0 m 32 ls []) := by
    intro n
    induction n with
    | zero =>
      intro kk hn hk hI
      exact absurd hn (by omega)
    | succ n ih =>
      intro kk hn hk hI H locs hG ls hl
      refine lv_iload_n hx hb dX1_used_32 rfl (lv_at hl 0 rfl) ?_
      refine lv_if_lt hx hb (tgt := 84) dX1_used_33 (by decide) (fun h33 => ?_) (fun h33 => ?_)
      · rw [pred_neg (by omega)] at h33
        refine lv_iconst (v := nI 0) hx hb dX1_used_84 (by decide) ?_
        exact hret _ _ _ _ _ _ hG (⟨rfl, by rw [hI, if_pos h33]⟩) rfl dX1_used_85
      · rw [pred_neg (by omega)] at h33
        rw [pk_sub (by omega : 1 ≤ kk)] at hl
        refine lv_aload_n hx hb dX1_used_36 rfl (lv_at hl 1 rfl) ?_
        refine k_f_mv hC hG dX1_used_37 ?_
        refine lv_bipush (v := nI 40) hx hb dX1_used_40 (by decide) ?_
        refine lv_iload_n hx hb dX1_used_42 rfl (lv_at hl 2 rfl) ?_
        refine n_mul hx hb dX1_used_43 ?_
        refine lv_iload_n hx hb dX1_used_44 rfl (lv_at hl 0 rfl) ?_
        refine n_add hx hb dX1_used_45 ?_
        have hm2 := hM (40 * j + (kk - 1)) (by omega)
        refine k_l_mv (by omega) hC hG dX1_used_46 ?_
        refine n_if_le (by omega) hx hb (tgt := 78) dX1_used_47 (by decide) (fun h47 => ?_) (fun h47 => ?_)
        · refine lv_iinc (v := nI (kk - 1) - nI 1) (lv' := [(3, .int (nI (kk - 1) - nI 1)), (0, .ref (ad 0)), (1, .int (nI j))]) hx hb dX1_used_78 hl (k := 0) rfl (dec1r _) (by decide) rfl (fun ls hl => ?_)
          refine lv_goto (tgt := 32) hx hb dX1_used_81 (by decide) ?_
          exact ih (kk - 1) (by omega) (by omega) (by first | exact used_init h11 | exact used_step h33 hI h47) _ _ hG ls (lv_sub hl [0, 1, 2] rfl)
        · refine lv_aload_n hx hb dX1_used_50 rfl (lv_at hl 1 rfl) ?_
          refine k_f_mv hC hG dX1_used_51 ?_
          refine lv_bipush (v := nI 40) hx hb dX1_used_54 (by decide) ?_
          refine lv_iload_n hx hb dX1_used_56 rfl (lv_at hl 2 rfl) ?_
          refine n_mul hx hb dX1_used_57 ?_
          refine lv_iload_n hx hb dX1_used_58 rfl (lv_at hl 0 rfl) ?_
          refine n_add hx hb dX1_used_59 ?_
          refine k_l_mv (by omega) hC hG dX1_used_60 ?_
          refine lv_iconst (v := nI 1) hx hb dX1_used_61 (by decide) ?_
          refine n_sub (by omega) hx hb dX1_used_62 ?_
          refine lv_istore (lv' := [(4, .int (nI ((mv ((40 * j) + (kk - 1))) - 1))), (3, .int (nI (kk - 1))), (0, .ref (ad 0)), (1, .int (nI j))]) hx hb dX1_used_63 hl (by decide) rfl (fun ls hl => ?_)
          refine lv_iload hx hb dX1_used_65 (lv_at hl 0 rfl) ?_
          refine lv_iconst (v := nI 3) hx hb dX1_used_67 (by decide) ?_
          refine n_icmp_ne (by omega) hx hb (tgt := 75) dX1_used_68 (by decide) (fun h68 => ?_) (fun h68 => ?_)
          · refine lv_iload hx hb dX1_used_75 (lv_at hl 0 rfl) ?_
            exact hret _ _ _ _ _ _ hG (⟨rfl, by rw [used_ret h33 hI h47]; unfold gs; first | rw [if_pos h68] | rw [if_neg h68]⟩) rfl dX1_used_77
          · refine lv_iconst (v := nI 0) hx hb dX1_used_71 (by decide) ?_
            refine lv_goto (tgt := 77) hx hb dX1_used_72 (by decide) ?_
            exact hret _ _ _ _ _ _ hG (⟨rfl, by rw [used_ret h33 hI h47]; unfold gs; first | rw [if_pos h68] | rw [if_neg h68]⟩) rfl dX1_used_77
  refine lv_aload_n hx hb dX1_used_0 rfl (lv_at hl 0 rfl) ?_
  refine k_f_mv hC hG dX1_used_1 ?_
  refine lv_bipush (v := nI 40) hx hb dX1_used_4 (by decide) ?_
  refine lv_iload_n hx hb dX1_used_6 rfl (lv_at hl 1 rfl) ?_
  refine n_mul hx hb dX1_used_7 ?_
  refine lv_iload_n hx hb dX1_used_8 rfl (lv_at hl 2 rfl) ?_
  refine n_add hx hb dX1_used_9 ?_
  have hm1 := hM (40 * j + f) (by omega)
  refine k_l_mv (by omega) hC hG dX1_used_10 ?_
  refine n_if_le (by omega) hx hb (tgt := 28) dX1_used_11 (by decide) (fun h11 => ?_) (fun h11 => ?_)
  · refine lv_iload_n hx hb dX1_used_28 rfl (lv_at hl 2 rfl) ?_
    refine lv_iconst (v := nI 1) hx hb dX1_used_29 (by decide) ?_
    refine lv_isub hx hb dX1_used_30 ?_
    refine lv_istore_n (lv' := [(3, .int (nI f - nI 1)), (0, .ref (ad 0)), (1, .int (nI j)), (2, .int (nI f))]) hx hb dX1_used_31 rfl hl (by decide) rfl (fun ls hl => ?_)
    exact J32 (f + 1) f (by omega) (by omega) (by first | exact used_init h11 | exact used_step h33 hI h47) _ _ hG ls (lv_sub hl [0, 1, 2] rfl)
  · refine lv_aload_n hx hb dX1_used_14 rfl (lv_at hl 0 rfl) ?_
    refine k_f_mv hC hG dX1_used_15 ?_
    refine lv_bipush (v := nI 40) hx hb dX1_used_18 (by decide) ?_
    refine lv_iload_n hx hb dX1_used_20 rfl (lv_at hl 1 rfl) ?_
    refine n_mul hx hb dX1_used_21 ?_
    refine lv_iload_n hx hb dX1_used_22 rfl (lv_at hl 2 rfl) ?_
    refine n_add hx hb dX1_used_23 ?_
    refine k_l_mv (by omega) hC hG dX1_used_24 ?_
    refine lv_iconst (v := nI 1) hx hb dX1_used_25 (by decide) ?_
    refine n_sub (by omega) hx hb dX1_used_26 ?_
    exact hret _ _ _ _ _ _ hG (⟨rfl, by rw [U_arr h11]⟩) rfl dX1_used_27

set_option maxHeartbeats 4000000 in
set_option maxRecDepth 100000 in
theorem mX1_over (l : Launch) (D : va_G) (ad : Nat → Nat) (ca : Nat → ClassId) (mv bf : Nat → Nat) (d p0 p1 h0 h1 w0 w1 : Nat) (hp : h0 ≤ 9 ∧ h1 ≤ 9) : XMi l yX1_over (ws_ yX1_over cX1_over 1 (some .boolean)) ({ frames := 0, cells := 0, slots := 0, locals := 0 }) D (mw ad ca) (mt ca) [.ref (ad 0)] (mv, bf, d, p0, p1, h0, h1, w0, w1) (fun r u => u = (mv, bf, d, p0, p1, h0, h1, w0, w1) ∧ ((r = nI 1 ∧ (h0 = 0 ∨ h1 = 0)) ∨ (r = nI 0 ∧ ¬ (h0 = 0 ∨ h1 = 0)))) := by
  refine xe_i (own := RX1) (by decide) rfl (Nat.le_of_ble_eq_true rfl) ?_
  intro p e s m below meth c A R args Q hR hC hret H locs hG ls hl
  obtain ⟨hx, hb, hml, hown, hts, hK, hA⟩ := id hC
  have hl : lv_has ls 1 [(0, .ref (ad 0))] := hl
  refine lv_aload_n hx hb dX1_over_0 rfl (lv_at hl 0 rfl) ?_
  refine k_f_po hC hG dX1_over_1 ?_
  refine lv_iconst (v := nI 0) hx hb dX1_over_4 (by decide) ?_
  refine k_l_h0 hC hG dX1_over_5 ?_
  refine n_if_eq (by omega) hx hb (tgt := 18) dX1_over_6 (by decide) (fun hq6 => ?_) (fun hq6 => ?_)
  · refine lv_iconst (v := nI 1) hx hb dX1_over_18 (by decide) ?_
    refine lv_goto (tgt := 23) hx hb dX1_over_19 (by decide) ?_
    exact hret _ _ _ _ _ _ hG (⟨rfl, by first | exact Or.inl ⟨rfl, by omega⟩ | exact Or.inr ⟨rfl, by omega⟩⟩) rfl dX1_over_23
  · refine lv_aload_n hx hb dX1_over_9 rfl (lv_at hl 0 rfl) ?_
    refine k_f_po hC hG dX1_over_10 ?_
    refine lv_iconst (v := nI 1) hx hb dX1_over_13 (by decide) ?_
    refine k_l_h1 hC hG dX1_over_14 ?_
    refine n_if_ne (by omega) hx hb (tgt := 22) dX1_over_15 (by decide) (fun h15 => ?_) (fun h15 => ?_)
    · refine lv_iconst (v := nI 0) hx hb dX1_over_22 (by decide) ?_
      exact hret _ _ _ _ _ _ hG (⟨rfl, by first | exact Or.inl ⟨rfl, by omega⟩ | exact Or.inr ⟨rfl, by omega⟩⟩) rfl dX1_over_23
    · refine lv_iconst (v := nI 1) hx hb dX1_over_18 (by decide) ?_
      refine lv_goto (tgt := 23) hx hb dX1_over_19 (by decide) ?_
      exact hret _ _ _ _ _ _ hG (⟨rfl, by first | exact Or.inl ⟨rfl, by omega⟩ | exact Or.inr ⟨rfl, by omega⟩⟩) rfl dX1_over_23

set_option maxHeartbeats 4000000 in
set_option maxRecDepth 100000 in
theorem mX1_walk0 (l : Launch) (D : va_G) (ad : Nat → Nat) (ca : Nat → ClassId) (mv bf : Nat → Nat) (d p0 p1 h0 h1 w0 w1 : Nat) (mo : Nat) (hmo : mo < 4) (hp : p0 ≤ 9 ∧ p1 ≤ 9) : XMv l yX1_walk (ws_ yX1_walk cX1_walk 4 none) ({ frames := 0, cells := 0, slots := 0, locals := 0 }) D (mw ad ca) (mt ca) [.ref (ad 0), .int (nI 0), .int (nI mo)] (mv, bf, d, p0, p1, h0, h1, w0, w1) (fun u => u = (mv, bf, d, gGo p0 p1 mo, p1, h0, h1, w0, w1)) := by
  refine xe_v (own := RX1) (by decide) rfl (Nat.le_of_ble_eq_true rfl) ?_
  intro p e s m below meth c A R args Q hR hC hret H locs hG ls hl
  obtain ⟨hx, hb, hml, hown, hts, hK, hA⟩ := id hC
  have hl : lv_has ls 4 [(0, .ref (ad 0)), (1, .int (nI 0)), (2, .int (nI mo))] := hl
  have J38 : ∀ (x : Int32), (wTo p0 mo x) → ∀ (H : Heap) (locs : List Loc), xS D (mw ad ca) A s (mv, bf, d, p0, p1, h0, h1, w0, w1) H locs → ∀ ls : Array Slot, lv_has ls 4 [(0, .ref (ad 0)), (1, .int (nI 0)), (2, .int (nI mo))] → W p l e R s m args below meth c H locs 0 0 Q (F0 m 38 ls [.int x]) := by
    intro x ht H locs hG ls hl
    have ht9 := gTo_le (mv := mo) (show p0 ≤ 9 by omega)
    rcases ht with rfl | ⟨hme, hout⟩
    · skip
      refine lv_istore_n (lv' := [(3, .int (nI (gTo p0 mo))), (0, .ref (ad 0)), (1, .int (nI 0)), (2, .int (nI mo))]) hx hb dX1_walk_38 rfl hl (by decide) rfl (fun ls hl => ?_)
      refine lv_aload_n hx hb dX1_walk_39 rfl (lv_at hl 1 rfl) ?_
      refine k_f_pl hC hG dX1_walk_40 ?_
      refine lv_iload_n hx hb dX1_walk_43 rfl (lv_at hl 2 rfl) ?_
      refine lv_iload_n hx hb dX1_walk_44 rfl (lv_at hl 0 rfl) ?_
      refine n_if_lt (by omega) hx hb (tgt := 70) dX1_walk_45 (by decide) (fun h45 => absurd h45 (by omega)) (fun h45 => ?_)
      refine lv_iload_n hx hb dX1_walk_48 rfl (lv_at hl 0 rfl) ?_
      refine lv_bipush (v := nI 9) hx hb dX1_walk_49 (by decide) ?_
      refine n_icmp_gt (by omega) hx hb (tgt := 70) dX1_walk_51 (by decide) (fun h51 => absurd h51 (by omega)) (fun h51 => ?_)
      refine lv_iload_n hx hb dX1_walk_54 rfl (lv_at hl 0 rfl) ?_
      refine lv_aload_n hx hb dX1_walk_55 rfl (lv_at hl 1 rfl) ?_
      refine k_f_pl hC hG dX1_walk_56 ?_
      refine lv_iconst (v := nI 1) hx hb dX1_walk_59 (by decide) ?_
      refine lv_iload_n hx hb dX1_walk_60 rfl (lv_at hl 2 rfl) ?_
      refine n_sub (by decide) hx hb dX1_walk_61 ?_
      refine n_as 1 rfl ?_
      refine k_l_p1 hC hG dX1_walk_62 ?_
      refine n_icmp_eq (by omega) hx hb (tgt := 70) dX1_walk_63 (by decide) (fun h63 => ?_) (fun h63 => ?_)
      · refine lv_aload_n hx hb dX1_walk_70 rfl (lv_at hl 1 rfl) ?_
        refine k_f_pl hC hG dX1_walk_71 ?_
        refine lv_iload_n hx hb dX1_walk_74 rfl (lv_at hl 2 rfl) ?_
        refine k_l_p0 hC hG dX1_walk_75 ?_
        refine k_s_p0 hC hG dX1_walk_76 (fun H locs hG => ?_)
        exact hret _ _ _ _ _ hG ((by first | rw [gGo, if_pos h63] | rw [gGo, if_neg h63] | (rw [gGo, hme]; split <;> rfl))) dX1_walk_77
      · refine lv_iload_n hx hb dX1_walk_66 rfl (lv_at hl 0 rfl) ?_
        refine lv_goto (tgt := 76) hx hb dX1_walk_67 (by decide) ?_
        refine k_s_p0 hC hG dX1_walk_76 (fun H locs hG => ?_)
        exact hret _ _ _ _ _ hG ((by first | rw [gGo, if_pos h63] | rw [gGo, if_neg h63] | (rw [gGo, hme]; split <;> rfl))) dX1_walk_77
    · skip
      refine lv_istore_n (lv' := [(3, .int x), (0, .ref (ad 0)), (1, .int (nI 0)), (2, .int (nI mo))]) hx hb dX1_walk_38 rfl hl (by decide) rfl (fun ls hl => ?_)
      refine lv_aload_n hx hb dX1_walk_39 rfl (lv_at hl 1 rfl) ?_
      refine k_f_pl hC hG dX1_walk_40 ?_
      refine lv_iload_n hx hb dX1_walk_43 rfl (lv_at hl 2 rfl) ?_
      refine lv_iload_n hx hb dX1_walk_44 rfl (lv_at hl 0 rfl) ?_
      refine lv_if_lt hx hb (tgt := 70) dX1_walk_45 (by decide) (fun h45 => ?_) (fun h45 => ?_)
      · refine lv_aload_n hx hb dX1_walk_70 rfl (lv_at hl 1 rfl) ?_
        refine k_f_pl hC hG dX1_walk_71 ?_
        refine lv_iload_n hx hb dX1_walk_74 rfl (lv_at hl 2 rfl) ?_
        refine k_l_p0 hC hG dX1_walk_75 ?_
        refine k_s_p0 hC hG dX1_walk_76 (fun H locs hG => ?_)
        exact hret _ _ _ _ _ hG ((by first | rw [gGo, if_pos h63] | rw [gGo, if_neg h63] | (rw [gGo, hme]; split <;> rfl))) dX1_walk_77
      · refine lv_iload_n hx hb dX1_walk_48 rfl (lv_at hl 0 rfl) ?_
        refine lv_bipush (v := nI 9) hx hb dX1_walk_49 (by decide) ?_
        refine lv_icmp_gt hx hb (tgt := 70) dX1_walk_51 (by decide) (fun h51 => ?_) (fun h51 => ?_)
        · refine lv_aload_n hx hb dX1_walk_70 rfl (lv_at hl 1 rfl) ?_
          refine k_f_pl hC hG dX1_walk_71 ?_
          refine lv_iload_n hx hb dX1_walk_74 rfl (lv_at hl 2 rfl) ?_
          refine k_l_p0 hC hG dX1_walk_75 ?_
          refine k_s_p0 hC hG dX1_walk_76 (fun H locs hG => ?_)
          exact hret _ _ _ _ _ hG ((by first | rw [gGo, if_pos h63] | rw [gGo, if_neg h63] | (rw [gGo, hme]; split <;> rfl))) dX1_walk_77
        · exact absurd hout (fun z => z.elim h45 h51)
  refine lv_iload_n hx hb dX1_walk_0 rfl (lv_at hl 2 rfl) ?_
  refine lv_iconst (v := nI 1) hx hb dX1_walk_1 (by decide) ?_
  refine n_icmp_ne (by omega) hx hb (tgt := 16) dX1_walk_2 (by decide) (fun hq2 => ?_) (fun hq2 => ?_)
  · refine lv_iload_n hx hb dX1_walk_16 rfl (lv_at hl 2 rfl) ?_
    refine lv_iconst (v := nI 2) hx hb dX1_walk_17 (by decide) ?_
    refine n_icmp_ne (by omega) hx hb (tgt := 32) dX1_walk_18 (by decide) (fun h18 => ?_) (fun h18 => ?_)
    · refine lv_aload_n hx hb dX1_walk_32 rfl (lv_at hl 0 rfl) ?_
      refine k_f_pl hC hG dX1_walk_33 ?_
      refine lv_iload_n hx hb dX1_walk_36 rfl (lv_at hl 1 rfl) ?_
      refine k_l_p0 hC hG dX1_walk_37 ?_
      exact J38 (nI p0) (by first | (subst hq2; exact wTo_1 (by omega)) | (subst h18; exact wTo_2 (by omega)) | exact wTo_0 hq2 h18) _ _ hG ls (lv_sub hl [0, 1, 2] rfl)
    · refine lv_aload_n hx hb dX1_walk_21 rfl (lv_at hl 0 rfl) ?_
      refine k_f_pl hC hG dX1_walk_22 ?_
      refine lv_iload_n hx hb dX1_walk_25 rfl (lv_at hl 1 rfl) ?_
      refine k_l_p0 hC hG dX1_walk_26 ?_
      refine lv_iconst (v := nI 1) hx hb dX1_walk_27 (by decide) ?_
      refine n_add hx hb dX1_walk_28 ?_
      refine lv_goto (tgt := 38) hx hb dX1_walk_29 (by decide) ?_
      exact J38 (nI (p0 + 1)) (by first | (subst hq2; exact wTo_1 (by omega)) | (subst h18; exact wTo_2 (by omega)) | exact wTo_0 hq2 h18) _ _ hG ls (lv_sub hl [0, 1, 2] rfl)
  · refine lv_aload_n hx hb dX1_walk_5 rfl (lv_at hl 0 rfl) ?_
    refine k_f_pl hC hG dX1_walk_6 ?_
    refine lv_iload_n hx hb dX1_walk_9 rfl (lv_at hl 1 rfl) ?_
    refine k_l_p0 hC hG dX1_walk_10 ?_
    refine lv_iconst (v := nI 1) hx hb dX1_walk_11 (by decide) ?_
    refine lv_isub hx hb dX1_walk_12 ?_
    refine lv_goto (tgt := 38) hx hb dX1_walk_13 (by decide) ?_
    exact J38 (nI p0 - nI 1) (by first | (subst hq2; exact wTo_1 (by omega)) | (subst h18; exact wTo_2 (by omega)) | exact wTo_0 hq2 h18) _ _ hG ls (lv_sub hl [0, 1, 2] rfl)

set_option maxHeartbeats 4000000 in
set_option maxRecDepth 100000 in
theorem mX1_walk1 (l : Launch) (D : va_G) (ad : Nat → Nat) (ca : Nat → ClassId) (mv bf : Nat → Nat) (d p0 p1 h0 h1 w0 w1 : Nat) (mo : Nat) (hmo : mo < 4) (hp : p0 ≤ 9 ∧ p1 ≤ 9) : XMv l yX1_walk (ws_ yX1_walk cX1_walk 4 none) ({ frames := 0, cells := 0, slots := 0, locals := 0 }) D (mw ad ca) (mt ca) [.ref (ad 0), .int (nI 1), .int (nI mo)] (mv, bf, d, p0, p1, h0, h1, w0, w1) (fun u => u = (mv, bf, d, p0, gGo p1 p0 mo, h0, h1, w0, w1)) := by
  refine xe_v (own := RX1) (by decide) rfl (Nat.le_of_ble_eq_true rfl) ?_
  intro p e s m below meth c A R args Q hR hC hret H locs hG ls hl
  obtain ⟨hx, hb, hml, hown, hts, hK, hA⟩ := id hC
  have hl : lv_has ls 4 [(0, .ref (ad 0)), (1, .int (nI 1)), (2, .int (nI mo))] := hl
  have J38 : ∀ (x : Int32), (wTo p1 mo x) → ∀ (H : Heap) (locs : List Loc), xS D (mw ad ca) A s (mv, bf, d, p0, p1, h0, h1, w0, w1) H locs → ∀ ls : Array Slot, lv_has ls 4 [(0, .ref (ad 0)), (1, .int (nI 1)), (2, .int (nI mo))] → W p l e R s m args below meth c H locs 0 0 Q (F0 m 38 ls [.int x]) := by
    intro x ht H locs hG ls hl
    have ht9 := gTo_le (mv := mo) (show p1 ≤ 9 by omega)
    rcases ht with rfl | ⟨hme, hout⟩
    · skip
      refine lv_istore_n (lv' := [(3, .int (nI (gTo p1 mo))), (0, .ref (ad 0)), (1, .int (nI 1)), (2, .int (nI mo))]) hx hb dX1_walk_38 rfl hl (by decide) rfl (fun ls hl => ?_)
      refine lv_aload_n hx hb dX1_walk_39 rfl (lv_at hl 1 rfl) ?_
      refine k_f_pl hC hG dX1_walk_40 ?_
      refine lv_iload_n hx hb dX1_walk_43 rfl (lv_at hl 2 rfl) ?_
      refine lv_iload_n hx hb dX1_walk_44 rfl (lv_at hl 0 rfl) ?_
      refine n_if_lt (by omega) hx hb (tgt := 70) dX1_walk_45 (by decide) (fun h45 => absurd h45 (by omega)) (fun h45 => ?_)
      refine lv_iload_n hx hb dX1_walk_48 rfl (lv_at hl 0 rfl) ?_
      refine lv_bipush (v := nI 9) hx hb dX1_walk_49 (by decide) ?_
      refine n_icmp_gt (by omega) hx hb (tgt := 70) dX1_walk_51 (by decide) (fun h51 => absurd h51 (by omega)) (fun h51 => ?_)
      refine lv_iload_n hx hb dX1_walk_54 rfl (lv_at hl 0 rfl) ?_
      refine lv_aload_n hx hb dX1_walk_55 rfl (lv_at hl 1 rfl) ?_
      refine k_f_pl hC hG dX1_walk_56 ?_
      refine lv_iconst (v := nI 1) hx hb dX1_walk_59 (by decide) ?_
      refine lv_iload_n hx hb dX1_walk_60 rfl (lv_at hl 2 rfl) ?_
      refine n_sub (by decide) hx hb dX1_walk_61 ?_
      refine n_as 0 rfl ?_
      refine k_l_p0 hC hG dX1_walk_62 ?_
      refine n_icmp_eq (by omega) hx hb (tgt := 70) dX1_walk_63 (by decide) (fun h63 => ?_) (fun h63 => ?_)
      · refine lv_aload_n hx hb dX1_walk_70 rfl (lv_at hl 1 rfl) ?_
        refine k_f_pl hC hG dX1_walk_71 ?_
        refine lv_iload_n hx hb dX1_walk_74 rfl (lv_at hl 2 rfl) ?_
        refine k_l_p1 hC hG dX1_walk_75 ?_
        refine k_s_p1 hC hG dX1_walk_76 (fun H locs hG => ?_)
        exact hret _ _ _ _ _ hG ((by first | rw [gGo, if_pos h63] | rw [gGo, if_neg h63] | (rw [gGo, hme]; split <;> rfl))) dX1_walk_77
      · refine lv_iload_n hx hb dX1_walk_66 rfl (lv_at hl 0 rfl) ?_
        refine lv_goto (tgt := 76) hx hb dX1_walk_67 (by decide) ?_
        refine k_s_p1 hC hG dX1_walk_76 (fun H locs hG => ?_)
        exact hret _ _ _ _ _ hG ((by first | rw [gGo, if_pos h63] | rw [gGo, if_neg h63] | (rw [gGo, hme]; split <;> rfl))) dX1_walk_77
    · skip
      refine lv_istore_n (lv' := [(3, .int x), (0, .ref (ad 0)), (1, .int (nI 1)), (2, .int (nI mo))]) hx hb dX1_walk_38 rfl hl (by decide) rfl (fun ls hl => ?_)
      refine lv_aload_n hx hb dX1_walk_39 rfl (lv_at hl 1 rfl) ?_
      refine k_f_pl hC hG dX1_walk_40 ?_
      refine lv_iload_n hx hb dX1_walk_43 rfl (lv_at hl 2 rfl) ?_
      refine lv_iload_n hx hb dX1_walk_44 rfl (lv_at hl 0 rfl) ?_
      refine lv_if_lt hx hb (tgt := 70) dX1_walk_45 (by decide) (fun h45 => ?_) (fun h45 => ?_)
      · refine lv_aload_n hx hb dX1_walk_70 rfl (lv_at hl 1 rfl) ?_
        refine k_f_pl hC hG dX1_walk_71 ?_
        refine lv_iload_n hx hb dX1_walk_74 rfl (lv_at hl 2 rfl) ?_
        refine k_l_p1 hC hG dX1_walk_75 ?_
        refine k_s_p1 hC hG dX1_walk_76 (fun H locs hG => ?_)
        exact hret _ _ _ _ _ hG ((by first | rw [gGo, if_pos h63] | rw [gGo, if_neg h63] | (rw [gGo, hme]; split <;> rfl))) dX1_walk_77
      · refine lv_iload_n hx hb dX1_walk_48 rfl (lv_at hl 0 rfl) ?_
        refine lv_bipush (v := nI 9) hx hb dX1_walk_49 (by decide) ?_
        refine lv_icmp_gt hx hb (tgt := 70) dX1_walk_51 (by decide) (fun h51 => ?_) (fun h51 => ?_)
        · refine lv_aload_n hx hb dX1_walk_70 rfl (lv_at hl 1 rfl) ?_
          refine k_f_pl hC hG dX1_walk_71 ?_
          refine lv_iload_n hx hb dX1_walk_74 rfl (lv_at hl 2 rfl) ?_
          refine k_l_p1 hC hG dX1_walk_75 ?_
          refine k_s_p1 hC hG dX1_walk_76 (fun H locs hG => ?_)
          exact hret _ _ _ _ _ hG ((by first | rw [gGo, if_pos h63] | rw [gGo, if_neg h63] | (rw [gGo, hme]; split <;> rfl))) dX1_walk_77
        · exact absurd hout (fun z => z.elim h45 h51)
  refine lv_iload_n hx hb dX1_walk_0 rfl (lv_at hl 2 rfl) ?_
  refine lv_iconst (v := nI 1) hx hb dX1_walk_1 (by decide) ?_
  refine n_icmp_ne (by omega) hx hb (tgt := 16) dX1_walk_2 (by decide) (fun hq2 => ?_) (fun hq2 => ?_)
  · refine lv_iload_n hx hb dX1_walk_16 rfl (lv_at hl 2 rfl) ?_
    refine lv_iconst (v := nI 2) hx hb dX1_walk_17 (by decide) ?_
    refine n_icmp_ne (by omega) hx hb (tgt := 32) dX1_walk_18 (by decide) (fun h18 => ?_) (fun h18 => ?_)
    · refine lv_aload_n hx hb dX1_walk_32 rfl (lv_at hl 0 rfl) ?_
      refine k_f_pl hC hG dX1_walk_33 ?_
      refine lv_iload_n hx hb dX1_walk_36 rfl (lv_at hl 1 rfl) ?_
      refine k_l_p1 hC hG dX1_walk_37 ?_
      exact J38 (nI p1) (by first | (subst hq2; exact wTo_1 (by omega)) | (subst h18; exact wTo_2 (by omega)) | exact wTo_0 hq2 h18) _ _ hG ls (lv_sub hl [0, 1, 2] rfl)
    · refine lv_aload_n hx hb dX1_walk_21 rfl (lv_at hl 0 rfl) ?_
      refine k_f_pl hC hG dX1_walk_22 ?_
      refine lv_iload_n hx hb dX1_walk_25 rfl (lv_at hl 1 rfl) ?_
      refine k_l_p1 hC hG dX1_walk_26 ?_
      refine lv_iconst (v := nI 1) hx hb dX1_walk_27 (by decide) ?_
      refine n_add hx hb dX1_walk_28 ?_
      refine lv_goto (tgt := 38) hx hb dX1_walk_29 (by decide) ?_
      exact J38 (nI (p1 + 1)) (by first | (subst hq2; exact wTo_1 (by omega)) | (subst h18; exact wTo_2 (by omega)) | exact wTo_0 hq2 h18) _ _ hG ls (lv_sub hl [0, 1, 2] rfl)
  · refine lv_aload_n hx hb dX1_walk_5 rfl (lv_at hl 0 rfl) ?_
    refine k_f_pl hC hG dX1_walk_6 ?_
    refine lv_iload_n hx hb dX1_walk_9 rfl (lv_at hl 1 rfl) ?_
    refine k_l_p1 hC hG dX1_walk_10 ?_
    refine lv_iconst (v := nI 1) hx hb dX1_walk_11 (by decide) ?_
    refine lv_isub hx hb dX1_walk_12 ?_
    refine lv_goto (tgt := 38) hx hb dX1_walk_13 (by decide) ?_
    exact J38 (nI p1 - nI 1) (by first | (subst hq2; exact wTo_1 (by omega)) | (subst h18; exact wTo_2 (by omega)) | exact wTo_0 hq2 h18) _ _ hG ls (lv_sub hl [0, 1, 2] rfl)
end
section
/-! X1: step, play, picture -/

set_option maxHeartbeats 4000000 in
set_option maxRecDepth 100000 in
theorem mX1_step (l : Launch) (D : va_G) (ad : Nat → Nat) (ca : Nat → ClassId) (mv bf : Nat → Nat) (d p0 p1 h0 h1 w0 w1 : Nat) (hM : ∀ i, i < 80 → mv i < 5) (f : Nat) (hf : f < 40) (hok : fOk (p0, p1, h0, h1, w0, w1)) : XMv l yX1_step (ws_ yX1_step cX1_step 8 none) ({ frames := 1, cells := 0, slots := 0, locals := 24 }) D (mw ad ca) (mt ca) [.ref (ad 0), .int (nI f)] (mv, bf, d, p0, p1, h0, h1, w0, w1) (fun u => ∃ z : Fi, z = fStep (p0, p1, h0, h1, w0, w1) (U mv 0 f) (U mv 1 f) ∧ u = (mv, bf, d, z)) := by
  refine xe_v (own := RX1) (by decide) rfl (Nat.le_of_ble_eq_true rfl) ?_
  intro p e s m below meth c A R args Q hR hC hret H locs hG ls hl
  obtain ⟨hx, hb, hml, hown, hts, hK, hA⟩ := id hC
  have hl : lv_has ls 8 [(0, .ref (ad 0)), (1, .int (nI f))] := hl
  have hok9 := hok
  unfold fOk at hok9
  simp only [] at hok9
  have hU0 := U_lt hM (p := 0) (by decide) f hf
  have hU1 := U_lt hM (p := 1) (by decide) f hf
  have J204 : ∀ (e0 : Nat) (e1 : Nat) (v0 : Nat) (v1 : Nat) (a : Nat) (b : Nat) (nr : Nat) (g1 : Nat), (e0 = gEff w0 (U mv 0 f)) → (e1 = gEff w1 (U mv 1 f)) → (e0 < 4 ∧ e1 < 4) → (v0 = gPau (w0 - 1) e0) → (v1 = w1 - 1) → (a = gGo p0 p1 e0) → (b = gGo p1 a e1) → (nr = gNear a b) → (nr < 2) → (g1 = gHit nr h1 e0) → ∀ (H : Heap) (locs : List Loc), xS D (mw ad ca) A s (mv, bf, d, a, b, h0, g1, v0, v1) H locs → ∀ ls : Array Slot, lv_has ls 8 [(7, .int (nI nr)), (5, .int (nI e1)), (4, .int (nI e0)), (0, .ref (ad 0))] → W p l e R s m args below meth c H locs 0 0 Q (F0 m 204 ls []) := by
    intro e0 e1 v0 v1 a b nr g1 he0 he1 he4 hv0 hv1 ha hb1 hnr hnr2 hg1 H locs hG ls hl
    refine lv_iload hx hb dX1_step_204 (lv_at hl 1 rfl) ?_
    refine lv_iconst (v := nI 3) hx hb dX1_step_206 (by decide) ?_
    refine n_icmp_ne (by omega) hx hb (tgt := 254) dX1_step_207 (by decide) (fun h207 => ?_) (fun h207 => ?_)
    · exact hret _ _ _ _ _ hG ((by refine ⟨_, ?_, rfl⟩; unfold fStep; simp only [← he0, ← he1]; rw [← ha, ← hb1, ← hnr, ← hg1, ← hv0, ← hv1]; unfold gPau gHit; grind)) dX1_step_254
    · refine lv_aload_n hx hb dX1_step_210 rfl (lv_at hl 3 rfl) ?_
      refine k_f_pa hC hG dX1_step_211 ?_
      refine lv_iconst (v := nI 1) hx hb dX1_step_214 (by decide) ?_
      refine lv_iconst (v := nI 2) hx hb dX1_step_215 (by decide) ?_
      refine k_s_w1 hC hG dX1_step_216 (fun H locs hG => ?_)
      refine lv_aload_n hx hb dX1_step_217 rfl (lv_at hl 3 rfl) ?_
      refine k_f_po hC hG dX1_step_218 ?_
      refine lv_iconst (v := nI 0) hx hb dX1_step_221 (by decide) ?_
      refine lv_iload hx hb dX1_step_222 (lv_at hl 0 rfl) ?_
      refine n_if_eq (by omega) hx hb (tgt := 247) dX1_step_224 (by decide) (fun h224 => ?_) (fun h224 => ?_)
      · refine lv_aload_n hx hb dX1_step_247 rfl (lv_at hl 3 rfl) ?_
        refine k_f_po hC hG dX1_step_248 ?_
        refine lv_iconst (v := nI 0) hx hb dX1_step_251 (by decide) ?_
        refine k_l_h0 hC hG dX1_step_252 ?_
        refine k_s_h0 hC hG dX1_step_253 (fun H locs hG => ?_)
        exact hret _ _ _ _ _ hG ((by refine ⟨_, ?_, rfl⟩; unfold fStep; simp only [← he0, ← he1]; rw [← ha, ← hb1, ← hnr, ← hg1, ← hv0, ← hv1]; unfold gPau gHit; grind)) dX1_step_254
      · refine lv_aload_n hx hb dX1_step_227 rfl (lv_at hl 3 rfl) ?_
        refine k_f_po hC hG dX1_step_228 ?_
        refine lv_iconst (v := nI 0) hx hb dX1_step_231 (by decide) ?_
        refine k_l_h0 hC hG dX1_step_232 ?_
        refine n_if_le (by omega) hx hb (tgt := 247) dX1_step_233 (by decide) (fun h233 => ?_) (fun h233 => ?_)
        · refine lv_aload_n hx hb dX1_step_247 rfl (lv_at hl 3 rfl) ?_
          refine k_f_po hC hG dX1_step_248 ?_
          refine lv_iconst (v := nI 0) hx hb dX1_step_251 (by decide) ?_
          refine k_l_h0 hC hG dX1_step_252 ?_
          refine k_s_h0 hC hG dX1_step_253 (fun H locs hG => ?_)
          exact hret _ _ _ _ _ hG ((by refine ⟨_, ?_, rfl⟩; unfold fStep; simp only [← he0, ← he1]; rw [← ha, ← hb1, ← hnr, ← hg1, ← hv0, ← hv1]; unfold gPau gHit; grind)) dX1_step_254
        · refine lv_aload_n hx hb dX1_step_236 rfl (lv_at hl 3 rfl) ?_
          refine k_f_po hC hG dX1_step_237 ?_
          refine lv_iconst (v := nI 0) hx hb dX1_step_240 (by decide) ?_
          refine k_l_h0 hC hG dX1_step_241 ?_
          refine lv_iconst (v := nI 1) hx hb dX1_step_242 (by decide) ?_
          refine n_sub (by omega) hx hb dX1_step_243 ?_
          refine lv_goto (tgt := 253) hx hb dX1_step_244 (by decide) ?_
          refine k_s_h0 hC hG dX1_step_253 (fun H locs hG => ?_)
          exact hret _ _ _ _ _ hG ((by refine ⟨_, ?_, rfl⟩; unfold fStep; simp only [← he0, ← he1]; rw [← ha, ← hb1, ← hnr, ← hg1, ← hv0, ← hv1]; unfold gPau gHit; grind)) dX1_step_254
  have J152 : ∀ (e0 : Nat) (e1 : Nat) (v0 : Nat) (v1 : Nat) (a : Nat) (b : Nat) (nr : Nat), (e0 = gEff w0 (U mv 0 f)) → (e1 = gEff w1 (U mv 1 f)) → (e0 < 4 ∧ e1 < 4) → (v0 = w0 - 1) → (v1 = w1 - 1) → (a = gGo p0 p1 e0) → (b = gGo p1 a e1) → (nr = gNear a b) → ∀ (H : Heap) (locs : List Loc), xS D (mw ad ca) A s (mv, bf, d, a, b, h0, h1, v0, v1) H locs → ∀ ls : Array Slot, lv_has ls 8 [(5, .int (nI e1)), (4, .int (nI e0)), (0, .ref (ad 0))] → W p l e R s m args below meth c H locs 0 0 Q (F0 m 152 ls [.int (nI nr)]) := by
    intro e0 e1 v0 v1 a b nr he0 he1 he4 hv0 hv1 ha hb1 hnr H locs hG ls hl
    have hnr2 : nr < 2 := by rw [hnr]; exact gNear_lt _ _
    refine lv_istore (lv' := [(7, .int (nI nr)), (5, .int (nI e1)), (4, .int (nI e0)), (0, .ref (ad 0))]) hx hb dX1_step_152 hl (by decide) rfl (fun ls hl => ?_)
    refine lv_iload hx hb dX1_step_154 (lv_at hl 2 rfl) ?_
    refine lv_iconst (v := nI 3) hx hb dX1_step_156 (by decide) ?_
    refine n_icmp_ne (by omega) hx hb (tgt := 204) dX1_step_157 (by decide) (fun h157 => ?_) (fun h157 => ?_)
    · exact J204 e0 e1 v0 v1 a b nr h1 he0 he1 he4 (by unfold gPau; grind) hv1 ha hb1 hnr hnr2 (by unfold gHit; grind) _ _ hG ls (lv_sub hl [0, 1, 2, 3] rfl)
    · refine lv_aload_n hx hb dX1_step_160 rfl (lv_at hl 3 rfl) ?_
      refine k_f_pa hC hG dX1_step_161 ?_
      refine lv_iconst (v := nI 0) hx hb dX1_step_164 (by decide) ?_
      refine lv_iconst (v := nI 2) hx hb dX1_step_165 (by decide) ?_
      refine k_s_w0 hC hG dX1_step_166 (fun H locs hG => ?_)
      refine lv_aload_n hx hb dX1_step_167 rfl (lv_at hl 3 rfl) ?_
      refine k_f_po hC hG dX1_step_168 ?_
      refine lv_iconst (v := nI 1) hx hb dX1_step_171 (by decide) ?_
      refine lv_iload hx hb dX1_step_172 (lv_at hl 0 rfl) ?_
      refine n_if_eq (by omega) hx hb (tgt := 197) dX1_step_174 (by decide) (fun h174 => ?_) (fun h174 => ?_)
      · refine lv_aload_n hx hb dX1_step_197 rfl (lv_at hl 3 rfl) ?_
        refine k_f_po hC hG dX1_step_198 ?_
        refine lv_iconst (v := nI 1) hx hb dX1_step_201 (by decide) ?_
        refine k_l_h1 hC hG dX1_step_202 ?_
        refine k_s_h1 hC hG dX1_step_203 (fun H locs hG => ?_)
        exact J204 e0 e1 2 v1 a b nr h1 he0 he1 he4 (by unfold gPau; grind) hv1 ha hb1 hnr hnr2 (by unfold gHit; grind) _ _ hG ls (lv_sub hl [0, 1, 2, 3] rfl)
      · refine lv_aload_n hx hb dX1_step_177 rfl (lv_at hl 3 rfl) ?_
        refine k_f_po hC hG dX1_step_178 ?_
        refine lv_iconst (v := nI 1) hx hb dX1_step_181 (by decide) ?_
        refine k_l_h1 hC hG dX1_step_182 ?_
        refine n_if_le (by omega) hx hb (tgt := 197) dX1_step_183 (by decide) (fun h183 => ?_) (fun h183 => ?_)
        · refine lv_aload_n hx hb dX1_step_197 rfl (lv_at hl 3 rfl) ?_
          refine k_f_po hC hG dX1_step_198 ?_
          refine lv_iconst (v := nI 1) hx hb dX1_step_201 (by decide) ?_
          refine k_l_h1 hC hG dX1_step_202 ?_
          refine k_s_h1 hC hG dX1_step_203 (fun H locs hG => ?_)
          exact J204 e0 e1 2 v1 a b nr h1 he0 he1 he4 (by unfold gPau; grind) hv1 ha hb1 hnr hnr2 (by unfold gHit; grind) _ _ hG ls (lv_sub hl [0, 1, 2, 3] rfl)
        · refine lv_aload_n hx hb dX1_step_186 rfl (lv_at hl 3 rfl) ?_
          refine k_f_po hC hG dX1_step_187 ?_
          refine lv_iconst (v := nI 1) hx hb dX1_step_190 (by decide) ?_
          refine k_l_h1 hC hG dX1_step_191 ?_
          refine lv_iconst (v := nI 1) hx hb dX1_step_192 (by decide) ?_
          refine n_sub (by omega) hx hb dX1_step_193 ?_
          refine lv_goto (tgt := 203) hx hb dX1_step_194 (by decide) ?_
          refine k_s_h1 hC hG dX1_step_203 (fun H locs hG => ?_)
          exact J204 e0 e1 2 v1 a b nr ((h1 - 1)) he0 he1 he4 (by unfold gPau; grind) hv1 ha hb1 hnr hnr2 (by unfold gHit; grind) _ _ hG ls (lv_sub hl [0, 1, 2, 3] rfl)
  have J120 : ∀ (e0 : Nat) (e1 : Nat) (v0 : Nat) (v1 : Nat) (a : Nat) (b : Nat), (e0 = gEff w0 (U mv 0 f)) → (e1 = gEff w1 (U mv 1 f)) → (e0 < 4 ∧ e1 < 4) → (v0 = w0 - 1) → (v1 = w1 - 1) → (a = gGo p0 p1 e0) → (b = gGo p1 a e1) → ∀ (H : Heap) (locs : List Loc), xS D (mw ad ca) A s (mv, bf, d, a, b, h0, h1, v0, v1) H locs → ∀ ls : Array Slot, lv_has ls 8 [(5, .int (nI e1)), (4, .int (nI e0)), (0, .ref (ad 0))] → W p l e R s m args below meth c H locs 0 0 Q (F0 m 120 ls []) := by
    intro e0 e1 v0 v1 a b he0 he1 he4 hv0 hv1 ha hb1 H locs hG ls hl
    have ha9 : a ≤ 9 := by rw [ha]; exact gGo_le (by omega)
    have hb9 : b ≤ 9 := by rw [hb1]; exact gGo_le (by omega)
    refine lv_aload_n hx hb dX1_step_120 rfl (lv_at hl 2 rfl) ?_
    refine k_f_pl hC hG dX1_step_121 ?_
    refine lv_iconst (v := nI 0) hx hb dX1_step_124 (by decide) ?_
    refine k_l_p0 hC hG dX1_step_125 ?_
    refine lv_aload_n hx hb dX1_step_126 rfl (lv_at hl 2 rfl) ?_
    refine k_f_pl hC hG dX1_step_127 ?_
    refine lv_iconst (v := nI 1) hx hb dX1_step_130 (by decide) ?_
    refine k_l_p1 hC hG dX1_step_131 ?_
    refine lv_isub hx hb dX1_step_132 ?_
    refine lv_istore (lv' := [(6, .int (nI a - nI b)), (5, .int (nI e1)), (4, .int (nI e0)), (0, .ref (ad 0))]) hx hb dX1_step_133 hl (by decide) rfl (fun ls hl => ?_)
    refine lv_iload hx hb dX1_step_135 (lv_at hl 0 rfl) ?_
    refine lv_iconst (v := (-1)) hx hb dX1_step_137 (by decide) ?_
    refine lv_icmp_lt hx hb (tgt := 151) dX1_step_138 (by decide) (fun h138 => ?_) (fun h138 => ?_)
    · rw [near_lt ha9 hb9] at h138
      refine lv_iconst (v := nI 0) hx hb dX1_step_151 (by decide) ?_
      exact J152 e0 e1 v0 v1 a b 0 he0 he1 he4 hv0 hv1 ha hb1 (by unfold gNear; grind) _ _ hG ls (lv_sub hl [1, 2, 3] rfl)
    · rw [near_lt ha9 hb9] at h138
      refine lv_iload hx hb dX1_step_141 (lv_at hl 0 rfl) ?_
      refine lv_iconst (v := nI 1) hx hb dX1_step_143 (by decide) ?_
      refine lv_icmp_gt hx hb (tgt := 151) dX1_step_144 (by decide) (fun h144 => ?_) (fun h144 => ?_)
      · rw [near_gt ha9 hb9] at h144
        refine lv_iconst (v := nI 0) hx hb dX1_step_151 (by decide) ?_
        exact J152 e0 e1 v0 v1 a b 0 he0 he1 he4 hv0 hv1 ha hb1 (by unfold gNear; grind) _ _ hG ls (lv_sub hl [1, 2, 3] rfl)
      · rw [near_gt ha9 hb9] at h144
        refine lv_iconst (v := nI 1) hx hb dX1_step_147 (by decide) ?_
        refine lv_goto (tgt := 152) hx hb dX1_step_148 (by decide) ?_
        exact J152 e0 e1 v0 v1 a b 1 he0 he1 he4 hv0 hv1 ha hb1 (by unfold gNear; grind) _ _ hG ls (lv_sub hl [1, 2, 3] rfl)
  have J106 : ∀ (e0 : Nat) (e1 : Nat) (v0 : Nat) (v1 : Nat), (e0 = gEff w0 (U mv 0 f)) → (e1 = gEff w1 (U mv 1 f)) → (e0 < 4 ∧ e1 < 4) → (v0 = w0 - 1) → (v1 = w1 - 1) → ∀ (H : Heap) (locs : List Loc), xS D (mw ad ca) A s (mv, bf, d, p0, p1, h0, h1, v0, v1) H locs → ∀ ls : Array Slot, lv_has ls 8 [(5, .int (nI e1)), (4, .int (nI e0)), (0, .ref (ad 0))] → W p l e R s m args below meth c H locs 0 0 Q (F0 m 106 ls []) := by
    intro e0 e1 v0 v1 he0 he1 he4 hv0 hv1 H locs hG ls hl
    refine lv_aload_n hx hb dX1_step_106 rfl (lv_at hl 2 rfl) ?_
    refine lv_iconst (v := nI 0) hx hb dX1_step_107 (by decide) ?_
    refine lv_iload hx hb dX1_step_108 (lv_at hl 1 rfl) ?_
    refine xc_vv (n := 2) (rest := []) (ci := 1) (q0 := 0) hC hG (mX1_walk0 l D ad ca mv bf d p0 p1 h0 h1 v0 v1 e0 (by omega) ⟨by first | omega | exact gGo_le (by omega), by omega⟩) (lw_V q209 q211 qs16 q19 q212) (by decide +kernel) rfl rfl (by rw [hR]; exact ⟨Nat.le_of_ble_eq_true rfl, Nat.le_of_ble_eq_true rfl⟩) rfl rfl rfl hl.1 rfl (Nat.le_of_ble_eq_true rfl) dX1_step_110 (fun u H locs hp hG => ?_)
    obtain rfl := hp
    refine lv_aload_n hx hb dX1_step_113 rfl (lv_at hl 2 rfl) ?_
    refine lv_iconst (v := nI 1) hx hb dX1_step_114 (by decide) ?_
    refine lv_iload hx hb dX1_step_115 (lv_at hl 0 rfl) ?_
    refine xc_vv (n := 2) (rest := []) (ci := 1) (q0 := 0) hC hG (mX1_walk1 l D ad ca mv bf d ((gGo p0 p1 e0)) p1 h0 h1 v0 v1 e1 (by omega) ⟨by first | omega | exact gGo_le (by omega), by omega⟩) (lw_V q209 q211 qs16 q19 q212) (by decide +kernel) rfl rfl (by rw [hR]; exact ⟨Nat.le_of_ble_eq_true rfl, Nat.le_of_ble_eq_true rfl⟩) rfl rfl rfl hl.1 rfl (Nat.le_of_ble_eq_true rfl) dX1_step_117 (fun u H locs hp hG => ?_)
    obtain rfl := hp
    exact J120 e0 e1 v0 v1 ((gGo p0 p1 e0)) ((gGo p1 (gGo p0 p1 e0) e1)) he0 he1 he4 hv0 hv1 rfl rfl _ _ hG ls (lv_sub hl [0, 1, 2] rfl)
  refine lv_aload_n hx hb dX1_step_0 rfl (lv_at hl 0 rfl) ?_
  refine k_f_pa hC hG dX1_step_1 ?_
  refine lv_iconst (v := nI 0) hx hb dX1_step_4 (by decide) ?_
  refine k_l_w0 hC hG dX1_step_5 ?_
  refine n_if_ne (by omega) hx hb (tgt := 13) dX1_step_6 (by decide) (fun hq6 => ?_) (fun hq6 => ?_)
  · refine lv_iconst (v := nI 0) hx hb dX1_step_13 (by decide) ?_
    refine lv_istore_n (lv' := [(2, .int (nI 0)), (0, .ref (ad 0)), (1, .int (nI f))]) hx hb dX1_step_14 rfl hl (by decide) rfl (fun ls hl => ?_)
    refine lv_aload_n hx hb dX1_step_15 rfl (lv_at hl 1 rfl) ?_
    refine k_f_pa hC hG dX1_step_16 ?_
    refine lv_iconst (v := nI 1) hx hb dX1_step_19 (by decide) ?_
    refine k_l_w1 hC hG dX1_step_20 ?_
    refine n_if_ne (by omega) hx hb (tgt := 28) dX1_step_21 (by decide) (fun h21 => ?_) (fun h21 => ?_)
    · refine lv_iconst (v := nI 0) hx hb dX1_step_28 (by decide) ?_
      refine lv_istore_n (lv' := [(3, .int (nI 0)), (2, .int (nI 0)), (0, .ref (ad 0)), (1, .int (nI f))]) hx hb dX1_step_29 rfl hl (by decide) rfl (fun ls hl => ?_)
      refine lv_iload_n hx hb dX1_step_30 rfl (lv_at hl 1 rfl) ?_
      refine n_if_eq (by omega) hx hb (tgt := 43) dX1_step_31 (by decide) (fun h31 => ?_) (fun h31 => absurd h31 (by omega))
      refine lv_iconst (v := nI 0) hx hb dX1_step_43 (by decide) ?_
      refine lv_istore (lv' := [(4, .int (nI 0)), (3, .int (nI 0)), (2, .int (nI 0)), (0, .ref (ad 0)), (1, .int (nI f))]) hx hb dX1_step_44 hl (by decide) rfl (fun ls hl => ?_)
      refine lv_iload_n hx hb dX1_step_46 rfl (lv_at hl 1 rfl) ?_
      refine n_if_eq (by omega) hx hb (tgt := 59) dX1_step_47 (by decide) (fun h47 => ?_) (fun h47 => absurd h47 (by omega))
      refine lv_iconst (v := nI 0) hx hb dX1_step_59 (by decide) ?_
      refine lv_istore (lv' := [(5, .int (nI 0)), (4, .int (nI 0)), (3, .int (nI 0)), (2, .int (nI 0)), (0, .ref (ad 0)), (1, .int (nI f))]) hx hb dX1_step_60 hl (by decide) rfl (fun ls hl => ?_)
      refine lv_aload_n hx hb dX1_step_62 rfl (lv_at hl 4 rfl) ?_
      refine k_f_pa hC hG dX1_step_63 ?_
      refine lv_iconst (v := nI 0) hx hb dX1_step_66 (by decide) ?_
      refine lv_iload_n hx hb dX1_step_67 rfl (lv_at hl 3 rfl) ?_
      refine n_if_eq (by omega) hx hb (tgt := 75) dX1_step_68 (by decide) (fun h68 => ?_) (fun h68 => absurd h68 (by omega))
      refine lv_aload_n hx hb dX1_step_75 rfl (lv_at hl 4 rfl) ?_
      refine k_f_pa hC hG dX1_step_76 ?_
      refine lv_iconst (v := nI 0) hx hb dX1_step_79 (by decide) ?_
      refine k_l_w0 hC hG dX1_step_80 ?_
      refine lv_iconst (v := nI 1) hx hb dX1_step_81 (by decide) ?_
      refine n_sub (by omega) hx hb dX1_step_82 ?_
      refine k_s_w0 hC hG dX1_step_83 (fun H locs hG => ?_)
      refine lv_aload_n hx hb dX1_step_84 rfl (lv_at hl 4 rfl) ?_
      refine k_f_pa hC hG dX1_step_85 ?_
      refine lv_iconst (v := nI 1) hx hb dX1_step_88 (by decide) ?_
      refine lv_iload_n hx hb dX1_step_89 rfl (lv_at hl 2 rfl) ?_
      refine n_if_eq (by omega) hx hb (tgt := 97) dX1_step_90 (by decide) (fun h90 => ?_) (fun h90 => absurd h90 (by omega))
      refine lv_aload_n hx hb dX1_step_97 rfl (lv_at hl 4 rfl) ?_
      refine k_f_pa hC hG dX1_step_98 ?_
      refine lv_iconst (v := nI 1) hx hb dX1_step_101 (by decide) ?_
      refine k_l_w1 hC hG dX1_step_102 ?_
      refine lv_iconst (v := nI 1) hx hb dX1_step_103 (by decide) ?_
      refine n_sub (by omega) hx hb dX1_step_104 ?_
      refine k_s_w1 hC hG dX1_step_105 (fun H locs hG => ?_)
      exact J106 0 0 ((w0 - 1)) ((w1 - 1)) (by unfold gEff; grind) (by unfold gEff; grind) (by omega) (by omega) (by omega) _ _ hG ls (lv_sub hl [0, 1, 4] rfl)
    · refine lv_iconst (v := nI 1) hx hb dX1_step_24 (by decide) ?_
      refine lv_goto (tgt := 29) hx hb dX1_step_25 (by decide) ?_
      refine lv_istore_n (lv' := [(3, .int (nI 1)), (2, .int (nI 0)), (0, .ref (ad 0)), (1, .int (nI f))]) hx hb dX1_step_29 rfl hl (by decide) rfl (fun ls hl => ?_)
      refine lv_iload_n hx hb dX1_step_30 rfl (lv_at hl 1 rfl) ?_
      refine n_if_eq (by omega) hx hb (tgt := 43) dX1_step_31 (by decide) (fun h31 => ?_) (fun h31 => absurd h31 (by omega))
      refine lv_iconst (v := nI 0) hx hb dX1_step_43 (by decide) ?_
      refine lv_istore (lv' := [(4, .int (nI 0)), (3, .int (nI 1)), (2, .int (nI 0)), (0, .ref (ad 0)), (1, .int (nI f))]) hx hb dX1_step_44 hl (by decide) rfl (fun ls hl => ?_)
      refine lv_iload_n hx hb dX1_step_46 rfl (lv_at hl 1 rfl) ?_
      refine n_if_eq (by omega) hx hb (tgt := 59) dX1_step_47 (by decide) (fun h47 => absurd h47 (by omega)) (fun h47 => ?_)
      refine lv_aload_n hx hb dX1_step_50 rfl (lv_at hl 3 rfl) ?_
      refine lv_iconst (v := nI 1) hx hb dX1_step_51 (by decide) ?_
      refine lv_iload_n hx hb dX1_step_52 rfl (lv_at hl 4 rfl) ?_
      refine xc_vi (n := 2) (rest := []) (ci := 1) (q0 := 0) hC hG (mX1_used l D ad ca mv bf d p0 p1 h0 h1 w0 w1 hM 1 f (by decide) hf) (lw_V q205 q207 qs15 q19 q208) (by decide +kernel) rfl rfl (by rw [hR]; exact ⟨Nat.le_of_ble_eq_true rfl, Nat.le_of_ble_eq_true rfl⟩) rfl rfl rfl hl.1 rfl (Nat.le_of_ble_eq_true rfl) dX1_step_53 (fun r u H locs hp hG => ?_)
      obtain ⟨rfl, rfl⟩ := hp
      refine lv_goto (tgt := 60) hx hb dX1_step_56 (by decide) ?_
      refine lv_istore (lv' := [(5, .int (nI (U mv 1 f))), (4, .int (nI 0)), (3, .int (nI 1)), (2, .int (nI 0)), (0, .ref (ad 0)), (1, .int (nI f))]) hx hb dX1_step_60 hl (by decide) rfl (fun ls hl => ?_)
      refine lv_aload_n hx hb dX1_step_62 rfl (lv_at hl 4 rfl) ?_
      refine k_f_pa hC hG dX1_step_63 ?_
      refine lv_iconst (v := nI 0) hx hb dX1_step_66 (by decide) ?_
      refine lv_iload_n hx hb dX1_step_67 rfl (lv_at hl 3 rfl) ?_
      refine n_if_eq (by omega) hx hb (tgt := 75) dX1_step_68 (by decide) (fun h68 => ?_) (fun h68 => absurd h68 (by omega))
      refine lv_aload_n hx hb dX1_step_75 rfl (lv_at hl 4 rfl) ?_
      refine k_f_pa hC hG dX1_step_76 ?_
      refine lv_iconst (v := nI 0) hx hb dX1_step_79 (by decide) ?_
      refine k_l_w0 hC hG dX1_step_80 ?_
      refine lv_iconst (v := nI 1) hx hb dX1_step_81 (by decide) ?_
      refine n_sub (by omega) hx hb dX1_step_82 ?_
      refine k_s_w0 hC hG dX1_step_83 (fun H locs hG => ?_)
      refine lv_aload_n hx hb dX1_step_84 rfl (lv_at hl 4 rfl) ?_
      refine k_f_pa hC hG dX1_step_85 ?_
      refine lv_iconst (v := nI 1) hx hb dX1_step_88 (by decide) ?_
      refine lv_iload_n hx hb dX1_step_89 rfl (lv_at hl 2 rfl) ?_
      refine n_if_eq (by omega) hx hb (tgt := 97) dX1_step_90 (by decide) (fun h90 => absurd h90 (by omega)) (fun h90 => ?_)
      refine lv_iconst (v := nI 0) hx hb dX1_step_93 (by decide) ?_
      refine lv_goto (tgt := 105) hx hb dX1_step_94 (by decide) ?_
      refine k_s_w1 hC hG dX1_step_105 (fun H locs hG => ?_)
      exact J106 0 (U mv 1 f) ((w0 - 1)) 0 (by unfold gEff; grind) (by unfold gEff; grind) (by omega) (by omega) (by omega) _ _ hG ls (lv_sub hl [0, 1, 4] rfl)
  · refine lv_iconst (v := nI 1) hx hb dX1_step_9 (by decide) ?_
    refine lv_goto (tgt := 14) hx hb dX1_step_10 (by decide) ?_
    refine lv_istore_n (lv' := [(2, .int (nI 1)), (0, .ref (ad 0)), (1, .int (nI f))]) hx hb dX1_step_14 rfl hl (by decide) rfl (fun ls hl => ?_)
    refine lv_aload_n hx hb dX1_step_15 rfl (lv_at hl 1 rfl) ?_
    refine k_f_pa hC hG dX1_step_16 ?_
    refine lv_iconst (v := nI 1) hx hb dX1_step_19 (by decide) ?_
    refine k_l_w1 hC hG dX1_step_20 ?_
    refine n_if_ne (by omega) hx hb (tgt := 28) dX1_step_21 (by decide) (fun h21 => ?_) (fun h21 => ?_)
    · refine lv_iconst (v := nI 0) hx hb dX1_step_28 (by decide) ?_
      refine lv_istore_n (lv' := [(3, .int (nI 0)), (2, .int (nI 1)), (0, .ref (ad 0)), (1, .int (nI f))]) hx hb dX1_step_29 rfl hl (by decide) rfl (fun ls hl => ?_)
      refine lv_iload_n hx hb dX1_step_30 rfl (lv_at hl 1 rfl) ?_
      refine n_if_eq (by omega) hx hb (tgt := 43) dX1_step_31 (by decide) (fun h31 => absurd h31 (by omega)) (fun h31 => ?_)
      refine lv_aload_n hx hb dX1_step_34 rfl (lv_at hl 2 rfl) ?_
      refine lv_iconst (v := nI 0) hx hb dX1_step_35 (by decide) ?_
      refine lv_iload_n hx hb dX1_step_36 rfl (lv_at hl 3 rfl) ?_
      refine xc_vi (n := 2) (rest := []) (ci := 1) (q0 := 0) hC hG (mX1_used l D ad ca mv bf d p0 p1 h0 h1 w0 w1 hM 0 f (by decide) hf) (lw_V q205 q207 qs15 q19 q208) (by decide +kernel) rfl rfl (by rw [hR]; exact ⟨Nat.le_of_ble_eq_true rfl, Nat.le_of_ble_eq_true rfl⟩) rfl rfl rfl hl.1 rfl (Nat.le_of_ble_eq_true rfl) dX1_step_37 (fun r u H locs hp hG => ?_)
      obtain ⟨rfl, rfl⟩ := hp
      refine lv_goto (tgt := 44) hx hb dX1_step_40 (by decide) ?_
      refine lv_istore (lv' := [(4, .int (nI (U mv 0 f))), (3, .int (nI 0)), (2, .int (nI 1)), (0, .ref (ad 0)), (1, .int (nI f))]) hx hb dX1_step_44 hl (by decide) rfl (fun ls hl => ?_)
      refine lv_iload_n hx hb dX1_step_46 rfl (lv_at hl 1 rfl) ?_
      refine n_if_eq (by omega) hx hb (tgt := 59) dX1_step_47 (by decide) (fun h47 => ?_) (fun h47 => absurd h47 (by omega))
      refine lv_iconst (v := nI 0) hx hb dX1_step_59 (by decide) ?_
      refine lv_istore (lv' := [(5, .int (nI 0)), (4, .int (nI (U mv 0 f))), (3, .int (nI 0)), (2, .int (nI 1)), (0, .ref (ad 0)), (1, .int (nI f))]) hx hb dX1_step_60 hl (by decide) rfl (fun ls hl => ?_)
      refine lv_aload_n hx hb dX1_step_62 rfl (lv_at hl 4 rfl) ?_
      refine k_f_pa hC hG dX1_step_63 ?_
      refine lv_iconst (v := nI 0) hx hb dX1_step_66 (by decide) ?_
      refine lv_iload_n hx hb dX1_step_67 rfl (lv_at hl 3 rfl) ?_
      refine n_if_eq (by omega) hx hb (tgt := 75) dX1_step_68 (by decide) (fun h68 => absurd h68 (by omega)) (fun h68 => ?_)
      refine lv_iconst (v := nI 0) hx hb dX1_step_71 (by decide) ?_
      refine lv_goto (tgt := 83) hx hb dX1_step_72 (by decide) ?_
      refine k_s_w0 hC hG dX1_step_83 (fun H locs hG => ?_)
      refine lv_aload_n hx hb dX1_step_84 rfl (lv_at hl 4 rfl) ?_
      refine k_f_pa hC hG dX1_step_85 ?_
      refine lv_iconst (v := nI 1) hx hb dX1_step_88 (by decide) ?_
      refine lv_iload_n hx hb dX1_step_89 rfl (lv_at hl 2 rfl) ?_
      refine n_if_eq (by omega) hx hb (tgt := 97) dX1_step_90 (by decide) (fun h90 => ?_) (fun h90 => absurd h90 (by omega))
      refine lv_aload_n hx hb dX1_step_97 rfl (lv_at hl 4 rfl) ?_
      refine k_f_pa hC hG dX1_step_98 ?_
      refine lv_iconst (v := nI 1) hx hb dX1_step_101 (by decide) ?_
      refine k_l_w1 hC hG dX1_step_102 ?_
      refine lv_iconst (v := nI 1) hx hb dX1_step_103 (by decide) ?_
      refine n_sub (by omega) hx hb dX1_step_104 ?_
      refine k_s_w1 hC hG dX1_step_105 (fun H locs hG => ?_)
      exact J106 (U mv 0 f) 0 0 ((w1 - 1)) (by unfold gEff; grind) (by unfold gEff; grind) (by omega) (by omega) (by omega) _ _ hG ls (lv_sub hl [0, 1, 4] rfl)
    · refine lv_iconst (v := nI 1) hx hb dX1_step_24 (by decide) ?_
      refine lv_goto (tgt := 29) hx hb dX1_step_25 (by decide) ?_
      refine lv_istore_n (lv' := [(3, .int (nI 1)), (2, .int (nI 1)), (0, .ref (ad 0)), (1, .int (nI f))]) hx hb dX1_step_29 rfl hl (by decide) rfl (fun ls hl => ?_)
      refine lv_iload_n hx hb dX1_step_30 rfl (lv_at hl 1 rfl) ?_
      refine n_if_eq (by omega) hx hb (tgt := 43) dX1_step_31 (by decide) (fun h31 => absurd h31 (by omega)) (fun h31 => ?_)
      refine lv_aload_n hx hb dX1_step_34 rfl (lv_at hl 2 rfl) ?_
      refine lv_iconst (v := nI 0) hx hb dX1_step_35 (by decide) ?_
      refine lv_iload_n hx hb dX1_step_36 rfl (lv_at hl 3 rfl) ?_
      refine xc_vi (n := 2) (rest := []) (ci := 1) (q0 := 0) hC hG (mX1_used l D ad ca mv bf d p0 p1 h0 h1 w0 w1 hM 0 f (by decide) hf) (lw_V q205 q207 qs15 q19 q208) (by decide +kernel) rfl rfl (by rw [hR]; exact ⟨Nat.le_of_ble_eq_true rfl, Nat.le_of_ble_eq_true rfl⟩) rfl rfl rfl hl.1 rfl (Nat.le_of_ble_eq_true rfl) dX1_step_37 (fun r u H locs hp hG => ?_)
      obtain ⟨rfl, rfl⟩ := hp
      refine lv_goto (tgt := 44) hx hb dX1_step_40 (by decide) ?_
      refine lv_istore (lv' := [(4, .int (nI (U mv 0 f))), (3, .int (nI 1)), (2, .int (nI 1)), (0, .ref (ad 0)), (1, .int (nI f))]) hx hb dX1_step_44 hl (by decide) rfl (fun ls hl => ?_)
      refine lv_iload_n hx hb dX1_step_46 rfl (lv_at hl 1 rfl) ?_
      refine n_if_eq (by omega) hx hb (tgt := 59) dX1_step_47 (by decide) (fun h47 => absurd h47 (by omega)) (fun h47 => ?_)
      refine lv_aload_n hx hb dX1_step_50 rfl (lv_at hl 3 rfl) ?_
      refine lv_iconst (v := nI 1) hx hb dX1_step_51 (by decide) ?_
      refine lv_iload_n hx hb dX1_step_52 rfl (lv_at hl 4 rfl) ?_
      refine xc_vi (n := 2) (rest := []) (ci := 1) (q0 := 0) hC hG (mX1_used l D ad ca mv bf d p0 p1 h0 h1 w0 w1 hM 1 f (by decide) hf) (lw_V q205 q207 qs15 q19 q208) (by decide +kernel) rfl rfl (by rw [hR]; exact ⟨Nat.le_of_ble_eq_true rfl, Nat.le_of_ble_eq_true rfl⟩) rfl rfl rfl hl.1 rfl (Nat.le_of_ble_eq_true rfl) dX1_step_53 (fun r u H locs hp hG => ?_)
      obtain ⟨rfl, rfl⟩ := hp
      refine lv_goto (tgt := 60) hx hb dX1_step_56 (by decide) ?_
      refine lv_istore (lv' := [(5, .int (nI (U mv 1 f))), (4, .int (nI (U mv 0 f))), (3, .int (nI 1)), (2, .int (nI 1)), (0, .ref (ad 0)), (1, .int (nI f))]) hx hb dX1_step_60 hl (by decide) rfl (fun ls hl => ?_)
      refine lv_aload_n hx hb dX1_step_62 rfl (lv_at hl 4 rfl) ?_
      refine k_f_pa hC hG dX1_step_63 ?_
      refine lv_iconst (v := nI 0) hx hb dX1_step_66 (by decide) ?_
      refine lv_iload_n hx hb dX1_step_67 rfl (lv_at hl 3 rfl) ?_
      refine n_if_eq (by omega) hx hb (tgt := 75) dX1_step_68 (by decide) (fun h68 => absurd h68 (by omega)) (fun h68 => ?_)
      refine lv_iconst (v := nI 0) hx hb dX1_step_71 (by decide) ?_
      refine lv_goto (tgt := 83) hx hb dX1_step_72 (by decide) ?_
      refine k_s_w0 hC hG dX1_step_83 (fun H locs hG => ?_)
      refine lv_aload_n hx hb dX1_step_84 rfl (lv_at hl 4 rfl) ?_
      refine k_f_pa hC hG dX1_step_85 ?_
      refine lv_iconst (v := nI 1) hx hb dX1_step_88 (by decide) ?_
      refine lv_iload_n hx hb dX1_step_89 rfl (lv_at hl 2 rfl) ?_
      refine n_if_eq (by omega) hx hb (tgt := 97) dX1_step_90 (by decide) (fun h90 => absurd h90 (by omega)) (fun h90 => ?_)
      refine lv_iconst (v := nI 0) hx hb dX1_step_93 (by decide) ?_
      refine lv_goto (tgt := 105) hx hb dX1_step_94 (by decide) ?_
      refine k_s_w1 hC hG dX1_step_105 (fun H locs hG => ?_)
      exact J106 (U mv 0 f) (U mv 1 f) 0 0 (by unfold gEff; grind) (by unfold gEff; grind) (by omega) (by omega) (by omega) _ _ hG ls (lv_sub hl [0, 1, 4] rfl)

set_option maxHeartbeats 4000000 in
set_option maxRecDepth 100000 in
theorem mX1_play (l : Launch) (D : va_G) (ad : Nat → Nat) (ca : Nat → ClassId) (mv bf : Nat → Nat) (d p0 p1 h0 h1 w0 w1 : Nat) (hM : ∀ i, i < 80 → mv i < 5) (nn : Nat) (hnn : nn ≤ 40) : XMv l yX1_play (ws_ yX1_play cX1_play 3 none) ({ frames := 2, cells := 0, slots := 0, locals := 51 }) D (mw ad ca) (mt ca) [.ref (ad 0), .int (nI nn)] (mv, bf, d, p0, p1, h0, h1, w0, w1) (fun u => ∃ z : Fi, z = FF mv nn ∧ u = (mv, bf, d, z)) := by
  refine xe_v (own := RX1) (by decide) rfl (Nat.le_of_ble_eq_true rfl) ?_
  intro p e s m below meth c A R args Q hR hC hret H locs hG ls hl
  obtain ⟨hx, hb, hml, hown, hts, hK, hA⟩ := id hC
  have hl : lv_has ls 3 [(0, .ref (ad 0)), (1, .int (nI nn))] := hl
  have J44 : ∀ (n : Nat) (a0 : Nat) (a1 : Nat) (a2 : Nat) (a3 : Nat) (a4 : Nat) (a5 : Nat) (f : Nat), (nn + 1 ≤ f + n) → (f ≤ nn) → ((a0, a1, a2, a3, a4, a5) = FF mv f) → ∀ (H : Heap) (locs : List Loc), xS D (mw ad ca) A s (mv, bf, d, a0, a1, a2, a3, a4, a5) H locs → ∀ ls : Array Slot, lv_has ls 3 [(2, .int (nI f)), (0, .ref (ad 0)), (1, .int (nI nn))] → W p l e R s m args below meth c H locs 0 0 Q (F0 m 44 ls []) := by
    intro n
    induction n with
    | zero =>
      intro a0 a1 a2 a3 a4 a5 f hn hfn hF
      exact absurd hn (by omega)
    | succ n ih =>
      intro a0 a1 a2 a3 a4 a5 f hn hfn hF H locs hG ls hl
      have hok := FF_ok mv f
      rw [← hF] at hok
      have hok9 := hok
      unfold fOk at hok9
      simp only [] at hok9
      refine lv_iload_n hx hb dX1_play_44 rfl (lv_at hl 0 rfl) ?_
      refine lv_iload_n hx hb dX1_play_45 rfl (lv_at hl 2 rfl) ?_
      refine n_icmp_ge (by omega) hx hb (tgt := 67) dX1_play_46 (by decide) (fun h46 => ?_) (fun h46 => ?_)
      · exact hret _ _ _ _ _ hG (⟨(a0, a1, a2, a3, a4, a5), by first | (rw [hF, FF_over (M := mv) (f := f) (by rw [← hF]; exact ho) nn hfn]; done) | (rw [hF, show nn = f by omega]; done), rfl⟩) dX1_play_67
      · refine lv_aload_n hx hb dX1_play_49 rfl (lv_at hl 1 rfl) ?_
        refine xc_vi (n := 0) (rest := []) (ci := 1) (q0 := 0) hC hG (mX1_over l D ad ca mv bf d a0 a1 a2 a3 a4 a5 ⟨by omega, by omega⟩) (lw_V q197 q199 qs13 q19 q200) (by decide +kernel) rfl rfl (by rw [hR]; exact ⟨Nat.le_of_ble_eq_true rfl, Nat.le_of_ble_eq_true rfl⟩) rfl rfl rfl hl.1 rfl (Nat.le_of_ble_eq_true rfl) dX1_play_50 (fun r u H locs hp hG => ?_)
        obtain ⟨rfl, hp⟩ := hp
        rcases hp with ⟨rfl, ho⟩ | ⟨rfl, ho⟩
        · refine n_if_ne (by omega) hx hb (tgt := 67) dX1_play_53 (by decide) (fun h53 => ?_) (fun h53 => absurd h53 (by omega))
          exact hret _ _ _ _ _ hG (⟨(a0, a1, a2, a3, a4, a5), by first | (rw [hF, FF_over (M := mv) (f := f) (by rw [← hF]; exact ho) nn hfn]; done) | (rw [hF, show nn = f by omega]; done), rfl⟩) dX1_play_67
        · refine n_if_ne (by omega) hx hb (tgt := 67) dX1_play_53 (by decide) (fun h53 => absurd h53 (by omega)) (fun h53 => ?_)
          refine lv_aload_n hx hb dX1_play_56 rfl (lv_at hl 1 rfl) ?_
          refine lv_iload_n hx hb dX1_play_57 rfl (lv_at hl 0 rfl) ?_
          refine xc_vv (n := 1) (rest := []) (ci := 1) (q0 := 0) hC hG (mX1_step l D ad ca mv bf d a0 a1 a2 a3 a4 a5 hM f (by omega) hok) (lw_V q201 q203 qs14 q19 q204) (by decide +kernel) rfl rfl (by rw [hR]; exact ⟨Nat.le_of_ble_eq_true rfl, Nat.le_of_ble_eq_true rfl⟩) rfl rfl rfl hl.1 rfl (Nat.le_of_ble_eq_true rfl) dX1_play_58 (fun u H locs hp hG => ?_)
          obtain ⟨⟨b0, b1, b2, b3, b4, b5⟩, hz, rfl⟩ := hp
          refine lv_iinc (v := nI (f + 1)) (lv' := [(2, .int (nI (f + 1))), (0, .ref (ad 0)), (1, .int (nI nn))]) hx hb dX1_play_61 hl (k := 0) rfl (inc1 _) (by decide) rfl (fun ls hl => ?_)
          refine lv_goto (tgt := 44) hx hb dX1_play_64 (by decide) ?_
          exact ih b0 b1 b2 b3 b4 b5 (f + 1) (by omega) (by omega) (by first | rfl | (rw [FF_step (by rw [← hF]; exact ho), ← hF]; exact hz)) _ _ hG ls (lv_sub hl [0, 1, 2] rfl)
  refine lv_aload_n hx hb dX1_play_0 rfl (lv_at hl 0 rfl) ?_
  refine k_f_pl hC hG dX1_play_1 ?_
  refine lv_iconst (v := nI 0) hx hb dX1_play_4 (by decide) ?_
  refine lv_iconst (v := nI 2) hx hb dX1_play_5 (by decide) ?_
  refine k_s_p0 hC hG dX1_play_6 (fun H locs hG => ?_)
  refine lv_aload_n hx hb dX1_play_7 rfl (lv_at hl 0 rfl) ?_
  refine k_f_pl hC hG dX1_play_8 ?_
  refine lv_iconst (v := nI 1) hx hb dX1_play_11 (by decide) ?_
  refine lv_bipush (v := nI 7) hx hb dX1_play_12 (by decide) ?_
  refine k_s_p1 hC hG dX1_play_14 (fun H locs hG => ?_)
  refine lv_iconst (v := nI 0) hx hb dX1_play_15 (by decide) ?_
  refine lv_istore_n (lv' := [(2, .int (nI 0)), (0, .ref (ad 0)), (1, .int (nI nn))]) hx hb dX1_play_16 rfl hl (by decide) rfl (fun ls hl => ?_)
  refine lv_iload_n hx hb dX1_play_17 rfl (lv_at hl 0 rfl) ?_
  refine lv_iconst (v := nI 2) hx hb dX1_play_18 (by decide) ?_
  refine n_icmp_ge (by omega) hx hb (tgt := 42) dX1_play_19 (by decide) (fun h19 => absurd h19 (by omega)) (fun h19 => ?_)
  refine lv_aload_n hx hb dX1_play_22 rfl (lv_at hl 1 rfl) ?_
  refine k_f_po hC hG dX1_play_23 ?_
  refine lv_iload_n hx hb dX1_play_26 rfl (lv_at hl 0 rfl) ?_
  refine lv_iconst (v := nI 5) hx hb dX1_play_27 (by decide) ?_
  refine k_s_h0 hC hG dX1_play_28 (fun H locs hG => ?_)
  refine lv_aload_n hx hb dX1_play_29 rfl (lv_at hl 1 rfl) ?_
  refine k_f_pa hC hG dX1_play_30 ?_
  refine lv_iload_n hx hb dX1_play_33 rfl (lv_at hl 0 rfl) ?_
  refine lv_iconst (v := nI 0) hx hb dX1_play_34 (by decide) ?_
  refine k_s_w0 hC hG dX1_play_35 (fun H locs hG => ?_)
  refine lv_iinc (v := nI (1)) (lv' := [(2, .int (nI 1)), (0, .ref (ad 0)), (1, .int (nI nn))]) hx hb dX1_play_36 hl (k := 0) rfl (by decide) (by decide) rfl (fun ls hl => ?_)
  refine lv_goto (tgt := 17) hx hb dX1_play_39 (by decide) ?_
  refine lv_iload_n hx hb dX1_play_17 rfl (lv_at hl 0 rfl) ?_
  refine lv_iconst (v := nI 2) hx hb dX1_play_18 (by decide) ?_
  refine n_icmp_ge (by omega) hx hb (tgt := 42) dX1_play_19 (by decide) (fun h19 => absurd h19 (by omega)) (fun h19 => ?_)
  refine lv_aload_n hx hb dX1_play_22 rfl (lv_at hl 1 rfl) ?_
  refine k_f_po hC hG dX1_play_23 ?_
  refine lv_iload_n hx hb dX1_play_26 rfl (lv_at hl 0 rfl) ?_
  refine lv_iconst (v := nI 5) hx hb dX1_play_27 (by decide) ?_
  refine k_s_h1 hC hG dX1_play_28 (fun H locs hG => ?_)
  refine lv_aload_n hx hb dX1_play_29 rfl (lv_at hl 1 rfl) ?_
  refine k_f_pa hC hG dX1_play_30 ?_
  refine lv_iload_n hx hb dX1_play_33 rfl (lv_at hl 0 rfl) ?_
  refine lv_iconst (v := nI 0) hx hb dX1_play_34 (by decide) ?_
  refine k_s_w1 hC hG dX1_play_35 (fun H locs hG => ?_)
  refine lv_iinc (v := nI (2)) (lv' := [(2, .int (nI 2)), (0, .ref (ad 0)), (1, .int (nI nn))]) hx hb dX1_play_36 hl (k := 0) rfl (by decide) (by decide) rfl (fun ls hl => ?_)
  refine lv_goto (tgt := 17) hx hb dX1_play_39 (by decide) ?_
  refine lv_iload_n hx hb dX1_play_17 rfl (lv_at hl 0 rfl) ?_
  refine lv_iconst (v := nI 2) hx hb dX1_play_18 (by decide) ?_
  refine n_icmp_ge (by omega) hx hb (tgt := 42) dX1_play_19 (by decide) (fun h19 => ?_) (fun h19 => absurd h19 (by omega))
  refine lv_iconst (v := nI 0) hx hb dX1_play_42 (by decide) ?_
  refine lv_istore_n (lv' := [(2, .int (nI 0)), (0, .ref (ad 0)), (1, .int (nI nn))]) hx hb dX1_play_43 rfl hl (by decide) rfl (fun ls hl => ?_)
  exact J44 (nn + 1) 2 7 5 5 0 0 0 (by omega) (by omega) (by first | rfl | (rw [FF_step (by rw [← hF]; exact ho), ← hF]; exact hz)) _ _ hG ls (lv_sub hl [0, 1, 2] rfl)

set_option maxHeartbeats 4000000 in
set_option maxRecDepth 100000 in
theorem mX1_picture (l : Launch) (D : va_G) (ad : Nat → Nat) (ca : Nat → ClassId) (mv bf : Nat → Nat) (d p0 p1 h0 h1 w0 w1 : Nat) (hM : ∀ i, i < 80 → mv i < 5) (nn : Nat) (hnn : nn ≤ 40) : XMi l yX1_picture (ws_ yX1_picture cX1_picture 2 (some .int)) ({ frames := 3, cells := 0, slots := 0, locals := 73 }) D (mw ad ca) (mt ca) [.ref (ad 0), .int (nI nn)] (mv, bf, d, p0, p1, h0, h1, w0, w1) (fun r u => (∃ z : Fi, u = (mv, bf, d, z)) ∧ r = nI (pic (FF mv nn))) := by
  refine xe_i (own := RX1) (by decide) rfl (Nat.le_of_ble_eq_true rfl) ?_
  intro p e s m below meth c A R args Q hR hC hret H locs hG ls hl
  obtain ⟨hx, hb, hml, hown, hts, hK, hA⟩ := id hC
  have hl : lv_has ls 2 [(0, .ref (ad 0)), (1, .int (nI nn))] := hl
  refine lv_aload_n hx hb dX1_picture_0 rfl (lv_at hl 0 rfl) ?_
  refine lv_iload_n hx hb dX1_picture_1 rfl (lv_at hl 1 rfl) ?_
  refine xc_vv (n := 1) (rest := []) (ci := 1) (q0 := 0) hC hG (mX1_play l D ad ca mv bf d p0 p1 h0 h1 w0 w1 hM nn hnn) (lw_V q193 q195 qs12 q19 q196) (by decide +kernel) rfl rfl (by rw [hR]; exact ⟨Nat.le_of_ble_eq_true rfl, Nat.le_of_ble_eq_true rfl⟩) rfl rfl rfl hl.1 rfl (Nat.le_of_ble_eq_true rfl) dX1_picture_2 (fun u H locs hp hG => ?_)
  obtain ⟨⟨b0, b1, b2, b3, b4, b5⟩, hz, rfl⟩ := hp
  refine lv_aload_n hx hb dX1_picture_5 rfl (lv_at hl 0 rfl) ?_
  refine k_f_pl hC hG dX1_picture_6 ?_
  refine lv_iconst (v := nI 0) hx hb dX1_picture_9 (by decide) ?_
  refine k_l_p0 hC hG dX1_picture_10 ?_
  refine lv_bipush (v := nI 10) hx hb dX1_picture_11 (by decide) ?_
  refine lv_aload_n hx hb dX1_picture_13 rfl (lv_at hl 0 rfl) ?_
  refine k_f_pl hC hG dX1_picture_14 ?_
  refine lv_iconst (v := nI 1) hx hb dX1_picture_17 (by decide) ?_
  refine k_l_p1 hC hG dX1_picture_18 ?_
  refine n_mul hx hb dX1_picture_19 ?_
  refine n_add hx hb dX1_picture_20 ?_
  refine lv_bipush (v := nI 100) hx hb dX1_picture_21 (by decide) ?_
  refine lv_aload_n hx hb dX1_picture_23 rfl (lv_at hl 0 rfl) ?_
  refine k_f_po hC hG dX1_picture_24 ?_
  refine lv_iconst (v := nI 0) hx hb dX1_picture_27 (by decide) ?_
  refine k_l_h0 hC hG dX1_picture_28 ?_
  refine n_mul hx hb dX1_picture_29 ?_
  refine n_add hx hb dX1_picture_30 ?_
  refine lv_sipush (v := nI 1000) hx hb dX1_picture_31 (by decide) ?_
  refine lv_aload_n hx hb dX1_picture_34 rfl (lv_at hl 0 rfl) ?_
  refine k_f_po hC hG dX1_picture_35 ?_
  refine lv_iconst (v := nI 1) hx hb dX1_picture_38 (by decide) ?_
  refine k_l_h1 hC hG dX1_picture_39 ?_
  refine n_mul hx hb dX1_picture_40 ?_
  refine n_add hx hb dX1_picture_41 ?_
  refine lv_sipush (v := nI 10000) hx hb dX1_picture_42 (by decide) ?_
  refine lv_aload_n hx hb dX1_picture_45 rfl (lv_at hl 0 rfl) ?_
  refine k_f_pa hC hG dX1_picture_46 ?_
  refine lv_iconst (v := nI 0) hx hb dX1_picture_49 (by decide) ?_
  refine k_l_w0 hC hG dX1_picture_50 ?_
  refine n_mul hx hb dX1_picture_51 ?_
  refine n_add hx hb dX1_picture_52 ?_
  refine n_ldc hx hb hown (hts _ q213) (k := 100000) (by decide) dX1_picture_53 ?_
  refine lv_aload_n hx hb dX1_picture_55 rfl (lv_at hl 0 rfl) ?_
  refine k_f_pa hC hG dX1_picture_56 ?_
  refine lv_iconst (v := nI 1) hx hb dX1_picture_59 (by decide) ?_
  refine k_l_w1 hC hG dX1_picture_60 ?_
  refine n_mul hx hb dX1_picture_61 ?_
  refine n_add hx hb dX1_picture_62 ?_
  exact hret _ _ _ _ _ _ hG (⟨⟨_, rfl⟩, by rw [← hz]; rfl⟩) rfl dX1_picture_63
end
section
/-! X1: what the law calls -/

theorem bf_step {mv bc : Nat → Nat} {k : Nat} (h : ∀ i, 1 ≤ i → i < k → bc i = pic (FF mv i)) : ∀ i, 1 ≤ i → i < k + 1 → up bc k (pic (FF mv k)) i = pic (FF mv i) := by
  intro i h1 h2
  by_cases e : i = k
  · rw [e, up_at]
  · rw [up_ne _ _ e]; exact h i h1 (by omega)

set_option maxHeartbeats 4000000 in
set_option maxRecDepth 100000 in
theorem mX1_arrive (l : Launch) (D : va_G) (ad : Nat → Nat) (ca : Nat → ClassId) (mv bf : Nat → Nat) (d p0 p1 h0 h1 w0 w1 : Nat) (hM : ∀ i, i < 80 → mv i < 5) (hd : d ≤ 40) (x1 x2 x3 : Int32) : XMi l yX1_arrive (ws_ yX1_arrive cX1_arrive 6 (some .int)) ({ frames := 4, cells := 0, slots := 0, locals := 94 }) D (mw ad ca) (mt ca) [.ref (ad 0), .int x1, .int x2, .int x3] (mv, bf, d, p0, p1, h0, h1, w0, w1) (fun r u => ∃ (M' bf' : Nat → Nat) (z : Fi), u = (M', bf', d, z) ∧ (∀ i, i < 80 → M' i < 5) ∧ aArr mv d x1 x2 x3 r M') := by
  refine xe_i (own := RX1) (by decide) rfl (Nat.le_of_ble_eq_true rfl) ?_
  intro p e s m below meth c A R args Q hR hC hret H locs hG ls hl
  obtain ⟨hx, hb, hml, hown, hts, hK, hA⟩ := id hC
  have hl : lv_has ls 6 [(0, .ref (ad 0)), (1, .int x1), (2, .int x2), (3, .int x3)] := hl
  have J92 : ∀ (n : Nat) (j : Nat) (f : Nat) (mo : Nat) (a0 : Nat) (a1 : Nat) (a2 : Nat) (a3 : Nat) (a4 : Nat) (a5 : Nat) (bc : Nat → Nat) (ch : Nat) (k : Nat), (d + 2 ≤ k + n) → (uNew mv (up mv (40 * j + f) (mo + 1)) j f mo) → (1 ≤ k) → (k ≤ d + 1) → (∀ i, 1 ≤ i → i ≤ d → bc i = pic (FF mv i)) → (ch = cnt (fun n => decide (pic (FF mv n) ≠ pic (FF (up mv (40 * j + f) (mo + 1)) n))) (k - 1)) → (x1 = nI j ∧ x2 = nI f ∧ x3 = nI mo) → ∀ (H : Heap) (locs : List Loc), xS D (mw ad ca) A s ((up mv (40 * j + f) (mo + 1)), bc, d, a0, a1, a2, a3, a4, a5) H locs → ∀ ls : Array Slot, lv_has ls 6 [(5, .int (nI k)), (4, .int (nI ch)), (0, .ref (ad 0)), (1, .int (nI j)), (2, .int (nI f)), (3, .int (nI mo))] → W p l e R s m args below meth c H locs 0 0 Q (F0 m 92 ls []) := by
    intro n
    induction n with
    | zero =>
      intro j f mo a0 a1 a2 a3 a4 a5 bc ch k hn hN hk1 hkd hbc hch hX
      exact absurd hn (by omega)
    | succ n ih =>
      intro j f mo a0 a1 a2 a3 a4 a5 bc ch k hn hN hk1 hkd hbc hch hX H locs hG ls hl
      have hcl := cnt_le (fun n => decide (pic (FF mv n) ≠ pic (FF (up mv (40 * j + f) (mo + 1)) n))) (k - 1)
      refine lv_iload hx hb dX1_arrive_92 (lv_at hl 0 rfl) ?_
      refine lv_aload_n hx hb dX1_arrive_94 rfl (lv_at hl 2 rfl) ?_
      refine k_f_d hC hG dX1_arrive_95 ?_
      refine n_icmp_gt (by omega) hx hb (tgt := 134) dX1_arrive_98 (by decide) (fun h98 => ?_) (fun h98 => ?_)
      · refine lv_iload hx hb dX1_arrive_134 (lv_at hl 1 rfl) ?_
        exact hret _ _ _ _ _ _ hG ((by obtain ⟨rfl, rfl, rfl⟩ := hX; exact ⟨(up mv (40 * j + f) (mo + 1)), bc, _, rfl, uNew_5 hN hM, arr_move hN.1 hN.2.1 hN.2.2.1 hN.2.2.2.1 rfl (by rw [hch, show k - 1 = d by omega])⟩)) rfl dX1_arrive_136
      · refine lv_aload_n hx hb dX1_arrive_101 rfl (lv_at hl 2 rfl) ?_
        refine lv_iload hx hb dX1_arrive_102 (lv_at hl 0 rfl) ?_
        refine xc_vi (n := 1) (rest := []) (ci := 1) (q0 := 0) hC hG (mX1_picture l D ad ca ((up mv (40 * j + f) (mo + 1))) bc d a0 a1 a2 a3 a4 a5 (uNew_5 hN hM) k (by omega)) (lw_V q189 q191 qs11 q19 q192) (by decide +kernel) rfl rfl (by rw [hR]; exact ⟨Nat.le_of_ble_eq_true rfl, Nat.le_of_ble_eq_true rfl⟩) rfl rfl rfl hl.1 rfl (Nat.le_of_ble_eq_true rfl) dX1_arrive_104 (fun r u H locs hp hG => ?_)
        obtain ⟨⟨⟨b0, b1, b2, b3, b4, b5⟩, rfl⟩, rfl⟩ := hp
        have hpl := pic_lt (FF_ok (up mv (40 * j + f) (mo + 1)) k)
        refine lv_aload_n hx hb dX1_arrive_107 rfl (lv_at hl 2 rfl) ?_
        refine k_f_bf hC hG dX1_arrive_108 ?_
        refine lv_iload hx hb dX1_arrive_111 (lv_at hl 0 rfl) ?_
        have hbk := hbc k hk1 (by omega)
        have hplk := pic_lt (FF_ok mv k)
        refine k_l_bf (by omega) hC hG dX1_arrive_113 ?_
        refine n_icmp_eq (by omega) hx hb (tgt := 124) dX1_arrive_114 (by decide) (fun h114 => ?_) (fun h114 => ?_)
        · refine lv_iload hx hb dX1_arrive_124 (lv_at hl 1 rfl) ?_
          refine lv_istore (lv' := [(4, .int (nI ch)), (5, .int (nI k)), (0, .ref (ad 0)), (1, .int (nI j)), (2, .int (nI f)), (3, .int (nI mo))]) hx hb dX1_arrive_126 hl (by decide) rfl (fun ls hl => ?_)
          refine lv_iinc (v := nI (k + 1)) (lv' := [(5, .int (nI (k + 1))), (4, .int (nI ch)), (0, .ref (ad 0)), (1, .int (nI j)), (2, .int (nI f)), (3, .int (nI mo))]) hx hb dX1_arrive_128 hl (k := 1) rfl (inc1 _) (by decide) rfl (fun ls hl => ?_)
          refine lv_goto (tgt := 92) hx hb dX1_arrive_131 (by decide) ?_
          exact ih j f mo b0 b1 b2 b3 b4 b5 bc ch (k + 1) (by omega) hN (by omega) (by omega) (by first | exact hbc | (intro i h1 h2; exact hI i h1 (by omega))) (by first | rfl | (rw [cntK hk1, ← hch]; first | (rw [if_pos (by simp only [decide_eq_true_eq]; omega)]; done) | (rw [if_neg (by simp only [decide_eq_true_eq]; omega), Nat.add_zero]))) (by first | exact hX) _ _ hG ls (lv_sub hl [0, 1, 2, 3, 4, 5] rfl)
        · refine lv_iload hx hb dX1_arrive_117 (lv_at hl 1 rfl) ?_
          refine lv_iconst (v := nI 1) hx hb dX1_arrive_119 (by decide) ?_
          refine n_add hx hb dX1_arrive_120 ?_
          refine lv_goto (tgt := 126) hx hb dX1_arrive_121 (by decide) ?_
          refine lv_istore (lv' := [(4, .int (nI (ch + 1))), (5, .int (nI k)), (0, .ref (ad 0)), (1, .int (nI j)), (2, .int (nI f)), (3, .int (nI mo))]) hx hb dX1_arrive_126 hl (by decide) rfl (fun ls hl => ?_)
          refine lv_iinc (v := nI (k + 1)) (lv' := [(5, .int (nI (k + 1))), (4, .int (nI (ch + 1))), (0, .ref (ad 0)), (1, .int (nI j)), (2, .int (nI f)), (3, .int (nI mo))]) hx hb dX1_arrive_128 hl (k := 1) rfl (inc1 _) (by decide) rfl (fun ls hl => ?_)
          refine lv_goto (tgt := 92) hx hb dX1_arrive_131 (by decide) ?_
          exact ih j f mo b0 b1 b2 b3 b4 b5 bc (ch + 1) (k + 1) (by omega) hN (by omega) (by omega) (by first | exact hbc | (intro i h1 h2; exact hI i h1 (by omega))) (by first | rfl | (rw [cntK hk1, ← hch]; first | (rw [if_pos (by simp only [decide_eq_true_eq]; omega)]; done) | (rw [if_neg (by simp only [decide_eq_true_eq]; omega), Nat.add_zero]))) (by first | exact hX) _ _ hG ls (lv_sub hl [0, 1, 2, 3, 4, 5] rfl)
  have J44 : ∀ (n : Nat) (j : Nat) (f : Nat) (mo : Nat) (a0 : Nat) (a1 : Nat) (a2 : Nat) (a3 : Nat) (a4 : Nat) (a5 : Nat) (bc : Nat → Nat) (k : Nat), (d + 2 ≤ k + n) → (uNew mv (up mv (40 * j + f) (mo + 1)) j f mo) → (1 ≤ k) → (k ≤ d + 1) → (∀ i, 1 ≤ i → i < k → bc i = pic (FF mv i)) → (x1 = nI j ∧ x2 = nI f ∧ x3 = nI mo) → ∀ (H : Heap) (locs : List Loc), xS D (mw ad ca) A s (mv, bc, d, a0, a1, a2, a3, a4, a5) H locs → ∀ ls : Array Slot, lv_has ls 6 [(4, .int (nI k)), (0, .ref (ad 0)), (1, .int (nI j)), (2, .int (nI f)), (3, .int (nI mo))] → W p l e R s m args below meth c H locs 0 0 Q (F0 m 44 ls []) := by
    intro n
    induction n with
    | zero =>
      intro j f mo a0 a1 a2 a3 a4 a5 bc k hn hN hk1 hkd hI hX
      exact absurd hn (by omega)
    | succ n ih =>
      intro j f mo a0 a1 a2 a3 a4 a5 bc k hn hN hk1 hkd hI hX H locs hG ls hl
      have hNj := hN.1
      have hNf := hN.2.1
      have hNm := hN.2.2.1
      refine lv_iload hx hb dX1_arrive_44 (lv_at hl 0 rfl) ?_
      refine lv_aload_n hx hb dX1_arrive_46 rfl (lv_at hl 1 rfl) ?_
      refine k_f_d hC hG dX1_arrive_47 ?_
      refine n_icmp_gt (by omega) hx hb (tgt := 72) dX1_arrive_50 (by decide) (fun h50 => ?_) (fun h50 => ?_)
      · refine lv_aload_n hx hb dX1_arrive_72 rfl (lv_at hl 1 rfl) ?_
        refine k_f_mv hC hG dX1_arrive_73 ?_
        refine lv_bipush (v := nI 40) hx hb dX1_arrive_76 (by decide) ?_
        refine lv_iload_n hx hb dX1_arrive_78 rfl (lv_at hl 2 rfl) ?_
        refine n_mul hx hb dX1_arrive_79 ?_
        refine lv_iload_n hx hb dX1_arrive_80 rfl (lv_at hl 3 rfl) ?_
        refine n_add hx hb dX1_arrive_81 ?_
        refine lv_iload_n hx hb dX1_arrive_82 rfl (lv_at hl 4 rfl) ?_
        refine lv_iconst (v := nI 1) hx hb dX1_arrive_83 (by decide) ?_
        refine n_add hx hb dX1_arrive_84 ?_
        refine k_s_mv (by omega) hC hG dX1_arrive_85 (fun H locs hG => ?_)
        refine lv_iconst (v := nI 0) hx hb dX1_arrive_86 (by decide) ?_
        refine lv_istore (lv' := [(4, .int (nI 0)), (0, .ref (ad 0)), (1, .int (nI j)), (2, .int (nI f)), (3, .int (nI mo))]) hx hb dX1_arrive_87 hl (by decide) rfl (fun ls hl => ?_)
        refine lv_iconst (v := nI 1) hx hb dX1_arrive_89 (by decide) ?_
        refine lv_istore (lv' := [(5, .int (nI 1)), (4, .int (nI 0)), (0, .ref (ad 0)), (1, .int (nI j)), (2, .int (nI f)), (3, .int (nI mo))]) hx hb dX1_arrive_90 hl (by decide) rfl (fun ls hl => ?_)
        exact J92 (d + 2) j f mo a0 a1 a2 a3 a4 a5 bc 0 1 (by omega) hN (by omega) (by omega) (by first | exact hbc | (intro i h1 h2; exact hI i h1 (by omega))) (by first | rfl | (rw [cntK hk1, ← hch]; first | (rw [if_pos (by simp only [decide_eq_true_eq]; omega)]; done) | (rw [if_neg (by simp only [decide_eq_true_eq]; omega), Nat.add_zero]))) (by first | exact hX) _ _ hG ls (lv_sub hl [0, 1, 2, 3, 4, 5] rfl)
      · refine lv_aload_n hx hb dX1_arrive_53 rfl (lv_at hl 1 rfl) ?_
        refine k_f_bf hC hG dX1_arrive_54 ?_
        refine lv_iload hx hb dX1_arrive_57 (lv_at hl 0 rfl) ?_
        refine lv_aload_n hx hb dX1_arrive_59 rfl (lv_at hl 1 rfl) ?_
        refine lv_iload hx hb dX1_arrive_60 (lv_at hl 0 rfl) ?_
        refine xc_vi (n := 1) (rest := [.int (nI k), .ref (ad 5)]) (ci := 1) (q0 := 0) hC hG (mX1_picture l D ad ca mv bc d a0 a1 a2 a3 a4 a5 hM k (by omega)) (lw_V q189 q191 qs11 q19 q192) (by decide +kernel) rfl rfl (by rw [hR]; exact ⟨Nat.le_of_ble_eq_true rfl, Nat.le_of_ble_eq_true rfl⟩) rfl rfl rfl hl.1 rfl (Nat.le_of_ble_eq_true rfl) dX1_arrive_62 (fun r u H locs hp hG => ?_)
        obtain ⟨⟨⟨b0, b1, b2, b3, b4, b5⟩, rfl⟩, rfl⟩ := hp
        have hpl := pic_lt (FF_ok mv k)
        refine k_s_bf (by omega) hC hG dX1_arrive_65 (fun H locs hG => ?_)
        refine lv_iinc (v := nI (k + 1)) (lv' := [(4, .int (nI (k + 1))), (0, .ref (ad 0)), (1, .int (nI j)), (2, .int (nI f)), (3, .int (nI mo))]) hx hb dX1_arrive_66 hl (k := 0) rfl (inc1 _) (by decide) rfl (fun ls hl => ?_)
        refine lv_goto (tgt := 44) hx hb dX1_arrive_69 (by decide) ?_
        exact ih j f mo b0 b1 b2 b3 b4 b5 ((up bc k (pic (FF mv k)))) (k + 1) (by omega) hN (by omega) (by omega) (by first | (intro i h1 h2; omega) | exact bf_step hI) (by first | exact hX | exact ⟨rfl, rfl, rfl⟩) _ _ hG ls (lv_sub hl [0, 1, 2, 3, 4] rfl)
  refine lv_aload_n hx hb dX1_arrive_0 rfl (lv_at hl 0 rfl) ?_
  refine lv_iload_n hx hb dX1_arrive_1 rfl (lv_at hl 1 rfl) ?_
  refine xc_vi (n := 1) (rest := []) (ci := 1) (q0 := 0) hC hG (mX1_player l D ad ca mv bf d p0 p1 h0 h1 w0 w1 x1) (lw_V q181 q183 qs9 q19 q184) (by decide +kernel) rfl rfl (by rw [hR]; exact ⟨Nat.le_of_ble_eq_true rfl, Nat.le_of_ble_eq_true rfl⟩) rfl rfl rfl hl.1 rfl (Nat.le_of_ble_eq_true rfl) dX1_arrive_2 (fun r u H locs hp hG => ?_)
  obtain ⟨rfl, hp⟩ := hp
  rcases hp with ⟨rfl, j, hj, rfl⟩ | ⟨rfl, hB1⟩
  · refine n_if_eq (by omega) hx hb (tgt := 39) dX1_arrive_5 (by decide) (fun hq5 => absurd hq5 (by omega)) (fun hq5 => ?_)
    refine lv_aload_n hx hb dX1_arrive_8 rfl (lv_at hl 0 rfl) ?_
    refine lv_iload_n hx hb dX1_arrive_9 rfl (lv_at hl 2 rfl) ?_
    refine xc_vi (n := 1) (rest := []) (ci := 1) (q0 := 0) hC hG (mX1_frame l D ad ca mv bf d p0 p1 h0 h1 w0 w1 x2) (lw_V q185 q187 qs10 q19 q188) (by decide +kernel) rfl rfl (by rw [hR]; exact ⟨Nat.le_of_ble_eq_true rfl, Nat.le_of_ble_eq_true rfl⟩) rfl rfl rfl hl.1 rfl (Nat.le_of_ble_eq_true rfl) dX1_arrive_10 (fun r u H locs hp hG => ?_)
    obtain ⟨rfl, hp⟩ := hp
    rcases hp with ⟨rfl, f, hf, rfl⟩ | ⟨rfl, hB2⟩
    · refine n_if_eq (by omega) hx hb (tgt := 39) dX1_arrive_13 (by decide) (fun h13 => absurd h13 (by omega)) (fun h13 => ?_)
      refine lv_iload_n hx hb dX1_arrive_16 rfl (lv_at hl 3 rfl) ?_
      refine lv_if_lt hx hb (tgt := 39) dX1_arrive_17 (by decide) (fun h17 => ?_) (fun h17 => ?_)
      · refine lv_iconst (v := (-1)) hx hb dX1_arrive_39 (by decide) ?_
        exact hret _ _ _ _ _ _ hG (⟨mv, bf, _, rfl, hM, Or.inr ⟨by first | exact noA1 hB1 | exact noA2 hB2 | exact noA3 h17 | exact noA4 h22 | exact noA5 hj hf h36, rfl, rfl⟩⟩) rfl dX1_arrive_40
      · refine lv_iload_n hx hb dX1_arrive_20 rfl (lv_at hl 3 rfl) ?_
        refine lv_iconst (v := nI 3) hx hb dX1_arrive_21 (by decide) ?_
        refine lv_icmp_gt hx hb (tgt := 39) dX1_arrive_22 (by decide) (fun h22 => ?_) (fun h22 => ?_)
        · refine lv_iconst (v := (-1)) hx hb dX1_arrive_39 (by decide) ?_
          exact hret _ _ _ _ _ _ hG (⟨mv, bf, _, rfl, hM, Or.inr ⟨by first | exact noA1 hB1 | exact noA2 hB2 | exact noA3 h17 | exact noA4 h22 | exact noA5 hj hf h36, rfl, rfl⟩⟩) rfl dX1_arrive_40
        · obtain ⟨mo, hmo, rfl⟩ := inB_mk3 (n := 3) (by decide) h17 h22
          refine lv_aload_n hx hb dX1_arrive_25 rfl (lv_at hl 0 rfl) ?_
          refine k_f_mv hC hG dX1_arrive_26 ?_
          refine lv_bipush (v := nI 40) hx hb dX1_arrive_29 (by decide) ?_
          refine lv_iload_n hx hb dX1_arrive_31 rfl (lv_at hl 1 rfl) ?_
          refine n_mul hx hb dX1_arrive_32 ?_
          refine lv_iload_n hx hb dX1_arrive_33 rfl (lv_at hl 2 rfl) ?_
          refine n_add hx hb dX1_arrive_34 ?_
          have hm1 := hM (40 * j + f) (by omega)
          refine k_l_mv (by omega) hC hG dX1_arrive_35 ?_
          refine n_if_le (by omega) hx hb (tgt := 41) dX1_arrive_36 (by decide) (fun h36 => ?_) (fun h36 => ?_)
          · have hN : uNew mv (up mv (40 * j + f) (mo + 1)) j f mo := ⟨hj, hf, hmo, h36, rfl⟩
            refine lv_iconst (v := nI 1) hx hb dX1_arrive_41 (by decide) ?_
            refine lv_istore (lv' := [(4, .int (nI 1)), (0, .ref (ad 0)), (1, .int (nI j)), (2, .int (nI f)), (3, .int (nI mo))]) hx hb dX1_arrive_42 hl (by decide) rfl (fun ls hl => ?_)
            exact J44 (d + 2) j f mo p0 p1 h0 h1 w0 w1 bf 1 (by omega) hN (by omega) (by omega) (by first | (intro i h1 h2; omega) | exact bf_step hI) (by first | exact hX | exact ⟨rfl, rfl, rfl⟩) _ _ hG ls (lv_sub hl [0, 1, 2, 3, 4] rfl)
          · refine lv_iconst (v := (-1)) hx hb dX1_arrive_39 (by decide) ?_
            exact hret _ _ _ _ _ _ hG (⟨mv, bf, _, rfl, hM, Or.inr ⟨by first | exact noA1 hB1 | exact noA2 hB2 | exact noA3 h17 | exact noA4 h22 | exact noA5 hj hf h36, rfl, rfl⟩⟩) rfl dX1_arrive_40
    · refine n_if_eq (by omega) hx hb (tgt := 39) dX1_arrive_13 (by decide) (fun h13 => ?_) (fun h13 => absurd h13 (by omega))
      refine lv_iconst (v := (-1)) hx hb dX1_arrive_39 (by decide) ?_
      exact hret _ _ _ _ _ _ hG (⟨mv, bf, _, rfl, hM, Or.inr ⟨by first | exact noA1 hB1 | exact noA2 hB2 | exact noA3 h17 | exact noA4 h22 | exact noA5 hj hf h36, rfl, rfl⟩⟩) rfl dX1_arrive_40
  · refine n_if_eq (by omega) hx hb (tgt := 39) dX1_arrive_5 (by decide) (fun hq5 => ?_) (fun hq5 => absurd hq5 (by omega))
    refine lv_iconst (v := (-1)) hx hb dX1_arrive_39 (by decide) ?_
    exact hret _ _ _ _ _ _ hG (⟨mv, bf, _, rfl, hM, Or.inr ⟨by first | exact noA1 hB1 | exact noA2 hB2 | exact noA3 h17 | exact noA4 h22 | exact noA5 hj hf h36, rfl, rfl⟩⟩) rfl dX1_arrive_40

set_option maxHeartbeats 4000000 in
set_option maxRecDepth 100000 in
theorem mX1_tick (l : Launch) (D : va_G) (ad : Nat → Nat) (ca : Nat → ClassId) (mv bf : Nat → Nat) (d p0 p1 h0 h1 w0 w1 : Nat) (hd : d ≤ 40) : XMi l yX1_tick (ws_ yX1_tick cX1_tick 1 (some .int)) ({ frames := 0, cells := 0, slots := 0, locals := 0 }) D (mw ad ca) (mt ca) [.ref (ad 0)] (mv, bf, d, p0, p1, h0, h1, w0, w1) (fun r u => (d < 40 ∧ u = (mv, bf, d + 1, p0, p1, h0, h1, w0, w1) ∧ r = nI (d + 1)) ∨ (¬ d < 40 ∧ u = (mv, bf, d, p0, p1, h0, h1, w0, w1) ∧ r = -1)) := by
  refine xe_i (own := RX1) (by decide) rfl (Nat.le_of_ble_eq_true rfl) ?_
  intro p e s m below meth c A R args Q hR hC hret H locs hG ls hl
  obtain ⟨hx, hb, hml, hown, hts, hK, hA⟩ := id hC
  have hl : lv_has ls 1 [(0, .ref (ad 0))] := hl
  refine lv_aload_n hx hb dX1_tick_0 rfl (lv_at hl 0 rfl) ?_
  refine k_f_d hC hG dX1_tick_1 ?_
  refine lv_bipush (v := nI 40) hx hb dX1_tick_4 (by decide) ?_
  refine n_icmp_lt (by omega) hx hb (tgt := 11) dX1_tick_6 (by decide) (fun hq6 => ?_) (fun hq6 => ?_)
  · refine lv_aload_n hx hb dX1_tick_11 rfl (lv_at hl 0 rfl) ?_
    refine lv_dup hx hb dX1_tick_12 rfl ?_
    refine k_f_d hC hG dX1_tick_13 ?_
    refine lv_iconst (v := nI 1) hx hb dX1_tick_16 (by decide) ?_
    refine n_add hx hb dX1_tick_17 ?_
    refine k_p_d hC hG dX1_tick_18 (fun H locs hG => ?_)
    refine lv_aload_n hx hb dX1_tick_21 rfl (lv_at hl 0 rfl) ?_
    refine k_f_d hC hG dX1_tick_22 ?_
    exact hret _ _ _ _ _ _ hG ((by first | exact Or.inl ⟨hq6, rfl, rfl⟩ | exact Or.inr ⟨hq6, rfl, rfl⟩)) rfl dX1_tick_25
  · refine lv_iconst (v := (-1)) hx hb dX1_tick_9 (by decide) ?_
    exact hret _ _ _ _ _ _ hG ((by first | exact Or.inl ⟨hq6, rfl, rfl⟩ | exact Or.inr ⟨hq6, rfl, rfl⟩)) rfl dX1_tick_10

set_option maxHeartbeats 4000000 in
set_option maxRecDepth 100000 in
theorem mX1_played (l : Launch) (D : va_G) (ad : Nat → Nat) (ca : Nat → ClassId) (mv bf : Nat → Nat) (d p0 p1 h0 h1 w0 w1 : Nat) : XMi l yX1_played (ws_ yX1_played cX1_played 1 (some .int)) ({ frames := 0, cells := 0, slots := 0, locals := 0 }) D (mw ad ca) (mt ca) [.ref (ad 0)] (mv, bf, d, p0, p1, h0, h1, w0, w1) (fun r u => u = (mv, bf, d, p0, p1, h0, h1, w0, w1) ∧ r = nI d) := by
  refine xe_i (own := RX1) (by decide) rfl (Nat.le_of_ble_eq_true rfl) ?_
  intro p e s m below meth c A R args Q hR hC hret H locs hG ls hl
  obtain ⟨hx, hb, hml, hown, hts, hK, hA⟩ := id hC
  have hl : lv_has ls 1 [(0, .ref (ad 0))] := hl
  refine lv_aload_n hx hb dX1_played_0 rfl (lv_at hl 0 rfl) ?_
  refine k_f_d hC hG dX1_played_1 ?_
  exact hret _ _ _ _ _ _ hG (⟨rfl, rfl⟩) rfl dX1_played_4

set_option maxHeartbeats 4000000 in
set_option maxRecDepth 100000 in
theorem mX1_sure (l : Launch) (D : va_G) (ad : Nat → Nat) (ca : Nat → ClassId) (mv bf : Nat → Nat) (d p0 p1 h0 h1 w0 w1 : Nat) (hM : ∀ i, i < 80 → mv i < 5) (hd : d ≤ 40) : XMi l yX1_sure (ws_ yX1_sure cX1_sure 2 (some .int)) ({ frames := 0, cells := 0, slots := 0, locals := 0 }) D (mw ad ca) (mt ca) [.ref (ad 0)] (mv, bf, d, p0, p1, h0, h1, w0, w1) (fun r u => u = (mv, bf, d, p0, p1, h0, h1, w0, w1) ∧ ∃ f, r = nI f ∧ sureIs mv f) := by
  refine xe_i (own := RX1) (by decide) rfl (Nat.le_of_ble_eq_true rfl) ?_
  intro p e s m below meth c A R args Q hR hC hret H locs hG ls hl
  obtain ⟨hx, hb, hml, hown, hts, hK, hA⟩ := id hC
  have hl : lv_has ls 2 [(0, .ref (ad 0))] := hl
  have J2 : ∀ (n : Nat) (f : Nat), (41 ≤ f + n) → (f ≤ 40) → (∀ k, k < f → mv k ≠ 0 ∧ mv (40 + k) ≠ 0) → ∀ (H : Heap) (locs : List Loc), xS D (mw ad ca) A s (mv, bf, d, p0, p1, h0, h1, w0, w1) H locs → ∀ ls : Array Slot, lv_has ls 2 [(1, .int (nI f)), (0, .ref (ad 0))] → W p l e R s m args below meth c H locs 0 0 Q (F0 m 2 ls []) := by
    intro n
    induction n with
    | zero =>
      intro f hn hf40 hI
      exact absurd hn (by omega)
    | succ n ih =>
      intro f hn hf40 hI H locs hG ls hl
      refine lv_iload_n hx hb dX1_sure_2 rfl (lv_at hl 0 rfl) ?_
      refine lv_bipush (v := nI 40) hx hb dX1_sure_3 (by decide) ?_
      refine n_icmp_ge (by omega) hx hb (tgt := 35) dX1_sure_5 (by decide) (fun hq5 => ?_) (fun hq5 => ?_)
      · refine lv_iload_n hx hb dX1_sure_35 rfl (lv_at hl 0 rfl) ?_
        exact hret _ _ _ _ _ _ hG (⟨rfl, f, rfl, hf40, hI, fun hlt => by first | exact Or.inl h14 | exact Or.inr h26 | omega⟩) rfl dX1_sure_36
      · refine lv_aload_n hx hb dX1_sure_8 rfl (lv_at hl 1 rfl) ?_
        refine k_f_mv hC hG dX1_sure_9 ?_
        refine lv_iload_n hx hb dX1_sure_12 rfl (lv_at hl 0 rfl) ?_
        have hm1 := hM f (by omega)
        refine k_l_mv (by omega) hC hG dX1_sure_13 ?_
        refine n_if_le (by omega) hx hb (tgt := 35) dX1_sure_14 (by decide) (fun h14 => ?_) (fun h14 => ?_)
        · refine lv_iload_n hx hb dX1_sure_35 rfl (lv_at hl 0 rfl) ?_
          exact hret _ _ _ _ _ _ hG (⟨rfl, f, rfl, hf40, hI, fun hlt => by first | exact Or.inl h14 | exact Or.inr h26 | omega⟩) rfl dX1_sure_36
        · refine lv_aload_n hx hb dX1_sure_17 rfl (lv_at hl 1 rfl) ?_
          refine k_f_mv hC hG dX1_sure_18 ?_
          refine lv_bipush (v := nI 40) hx hb dX1_sure_21 (by decide) ?_
          refine lv_iload_n hx hb dX1_sure_23 rfl (lv_at hl 0 rfl) ?_
          refine n_add hx hb dX1_sure_24 ?_
          have hm2 := hM (40 + f) (by omega)
          refine k_l_mv (by omega) hC hG dX1_sure_25 ?_
          refine n_if_le (by omega) hx hb (tgt := 35) dX1_sure_26 (by decide) (fun h26 => ?_) (fun h26 => ?_)
          · refine lv_iload_n hx hb dX1_sure_35 rfl (lv_at hl 0 rfl) ?_
            exact hret _ _ _ _ _ _ hG (⟨rfl, f, rfl, hf40, hI, fun hlt => by first | exact Or.inl h14 | exact Or.inr h26 | omega⟩) rfl dX1_sure_36
          · refine lv_iinc (v := nI (f + 1)) (lv' := [(1, .int (nI (f + 1))), (0, .ref (ad 0))]) hx hb dX1_sure_29 hl (k := 0) rfl (inc1 _) (by decide) rfl (fun ls hl => ?_)
            refine lv_goto (tgt := 2) hx hb dX1_sure_32 (by decide) ?_
            exact ih (f + 1) (by omega) (by omega) (by first | exact lt_0 | exact lt_s hI ⟨h14, h26⟩) _ _ hG ls (lv_sub hl [0, 1] rfl)
  refine lv_iconst (v := nI 0) hx hb dX1_sure_0 (by decide) ?_
  refine lv_istore_n (lv' := [(1, .int (nI 0)), (0, .ref (ad 0))]) hx hb dX1_sure_1 rfl hl (by decide) rfl (fun ls hl => ?_)
  exact J2 41 0 (by omega) (by omega) (by first | exact lt_0 | exact lt_s hI ⟨h14, h26⟩) _ _ hG ls (lv_sub hl [0, 1] rfl)

set_option maxHeartbeats 4000000 in
set_option maxRecDepth 100000 in
theorem mX1_position (l : Launch) (D : va_G) (ad : Nat → Nat) (ca : Nat → ClassId) (mv bf : Nat → Nat) (d p0 p1 h0 h1 w0 w1 : Nat) (hM : ∀ i, i < 80 → mv i < 5) (hd : d ≤ 40) (x1 : Int32) : XMi l yX1_position (ws_ yX1_position cX1_position 2 (some .int)) ({ frames := 3, cells := 0, slots := 0, locals := 73 }) D (mw ad ca) (mt ca) [.ref (ad 0), .int x1] (mv, bf, d, p0, p1, h0, h1, w0, w1) (fun r u => (∃ z : Fi, u = (mv, bf, d, z)) ∧ aSel (FF mv d).1 (FF mv d).2.1 x1 r) := by
  refine xe_i (own := RX1) (by decide) rfl (Nat.le_of_ble_eq_true rfl) ?_
  intro p e s m below meth c A R args Q hR hC hret H locs hG ls hl
  obtain ⟨hx, hb, hml, hown, hts, hK, hA⟩ := id hC
  have hl : lv_has ls 2 [(0, .ref (ad 0)), (1, .int x1)] := hl
  refine lv_aload_n hx hb dX1_position_0 rfl (lv_at hl 0 rfl) ?_
  refine lv_aload_n hx hb dX1_position_1 rfl (lv_at hl 0 rfl) ?_
  refine k_f_d hC hG dX1_position_2 ?_
  refine xc_vv (n := 1) (rest := []) (ci := 1) (q0 := 0) hC hG (mX1_play l D ad ca mv bf d p0 p1 h0 h1 w0 w1 hM d hd) (lw_V q193 q195 qs12 q19 q196) (by decide +kernel) rfl rfl (by rw [hR]; exact ⟨Nat.le_of_ble_eq_true rfl, Nat.le_of_ble_eq_true rfl⟩) rfl rfl rfl hl.1 rfl (Nat.le_of_ble_eq_true rfl) dX1_position_5 (fun u H locs hp hG => ?_)
  obtain ⟨⟨b0, b1, b2, b3, b4, b5⟩, hz, rfl⟩ := hp
  have hok := FF_ok mv d
  rw [← hz] at hok
  have hok9 := hok
  unfold fOk at hok9
  simp only [] at hok9
  refine lv_aload_n hx hb dX1_position_8 rfl (lv_at hl 0 rfl) ?_
  refine lv_iload_n hx hb dX1_position_9 rfl (lv_at hl 1 rfl) ?_
  refine xc_vi (n := 1) (rest := []) (ci := 1) (q0 := 0) hC hG (mX1_player l D ad ca mv bf d b0 b1 b2 b3 b4 b5 x1) (lw_V q181 q183 qs9 q19 q184) (by decide +kernel) rfl rfl (by rw [hR]; exact ⟨Nat.le_of_ble_eq_true rfl, Nat.le_of_ble_eq_true rfl⟩) rfl rfl rfl hl.1 rfl (Nat.le_of_ble_eq_true rfl) dX1_position_10 (fun r u H locs hp hG => ?_)
  obtain ⟨rfl, hp⟩ := hp
  rcases isP_cases hp with ⟨rfl, rfl⟩ | ⟨rfl, rfl⟩ | ⟨rfl, hB1⟩
  · refine n_if_eq (by omega) hx hb (tgt := 25) dX1_position_13 (by decide) (fun h13 => absurd h13 (by omega)) (fun h13 => ?_)
    refine lv_aload_n hx hb dX1_position_16 rfl (lv_at hl 0 rfl) ?_
    refine k_f_pl hC hG dX1_position_17 ?_
    refine lv_iload_n hx hb dX1_position_20 rfl (lv_at hl 1 rfl) ?_
    refine k_l_p0 hC hG dX1_position_21 ?_
    refine lv_goto (tgt := 26) hx hb dX1_position_22 (by decide) ?_
    exact hret _ _ _ _ _ _ hG (⟨⟨_, rfl⟩, by rw [← hz]; first | exact Or.inl ⟨rfl, rfl⟩ | exact Or.inr (Or.inl ⟨rfl, rfl⟩) | exact Or.inr (Or.inr ⟨hB1, rfl⟩)⟩) rfl dX1_position_26
  · refine n_if_eq (by omega) hx hb (tgt := 25) dX1_position_13 (by decide) (fun h13 => absurd h13 (by omega)) (fun h13 => ?_)
    refine lv_aload_n hx hb dX1_position_16 rfl (lv_at hl 0 rfl) ?_
    refine k_f_pl hC hG dX1_position_17 ?_
    refine lv_iload_n hx hb dX1_position_20 rfl (lv_at hl 1 rfl) ?_
    refine k_l_p1 hC hG dX1_position_21 ?_
    refine lv_goto (tgt := 26) hx hb dX1_position_22 (by decide) ?_
    exact hret _ _ _ _ _ _ hG (⟨⟨_, rfl⟩, by rw [← hz]; first | exact Or.inl ⟨rfl, rfl⟩ | exact Or.inr (Or.inl ⟨rfl, rfl⟩) | exact Or.inr (Or.inr ⟨hB1, rfl⟩)⟩) rfl dX1_position_26
  · refine n_if_eq (by omega) hx hb (tgt := 25) dX1_position_13 (by decide) (fun h13 => ?_) (fun h13 => absurd h13 (by omega))
    refine lv_iconst (v := (-1)) hx hb dX1_position_25 (by decide) ?_
    exact hret _ _ _ _ _ _ hG (⟨⟨_, rfl⟩, by rw [← hz]; first | exact Or.inl ⟨rfl, rfl⟩ | exact Or.inr (Or.inl ⟨rfl, rfl⟩) | exact Or.inr (Or.inr ⟨hB1, rfl⟩)⟩) rfl dX1_position_26

set_option maxHeartbeats 4000000 in
set_option maxRecDepth 100000 in
theorem mX1_strength (l : Launch) (D : va_G) (ad : Nat → Nat) (ca : Nat → ClassId) (mv bf : Nat → Nat) (d p0 p1 h0 h1 w0 w1 : Nat) (hM : ∀ i, i < 80 → mv i < 5) (hd : d ≤ 40) (x1 : Int32) : XMi l yX1_strength (ws_ yX1_strength cX1_strength 2 (some .int)) ({ frames := 3, cells := 0, slots := 0, locals := 73 }) D (mw ad ca) (mt ca) [.ref (ad 0), .int x1] (mv, bf, d, p0, p1, h0, h1, w0, w1) (fun r u => (∃ z : Fi, u = (mv, bf, d, z)) ∧ aSel (FF mv d).2.2.1 (FF mv d).2.2.2.1 x1 r) := by
  refine xe_i (own := RX1) (by decide) rfl (Nat.le_of_ble_eq_true rfl) ?_
  intro p e s m below meth c A R args Q hR hC hret H locs hG ls hl
  obtain ⟨hx, hb, hml, hown, hts, hK, hA⟩ := id hC
  have hl : lv_has ls 2 [(0, .ref (ad 0)), (1, .int x1)] := hl
  refine lv_aload_n hx hb dX1_strength_0 rfl (lv_at hl 0 rfl) ?_
  refine lv_aload_n hx hb dX1_strength_1 rfl (lv_at hl 0 rfl) ?_
  refine k_f_d hC hG dX1_strength_2 ?_
  refine xc_vv (n := 1) (rest := []) (ci := 1) (q0 := 0) hC hG (mX1_play l D ad ca mv bf d p0 p1 h0 h1 w0 w1 hM d hd) (lw_V q193 q195 qs12 q19 q196) (by decide +kernel) rfl rfl (by rw [hR]; exact ⟨Nat.le_of_ble_eq_true rfl, Nat.le_of_ble_eq_true rfl⟩) rfl rfl rfl hl.1 rfl (Nat.le_of_ble_eq_true rfl) dX1_strength_5 (fun u H locs hp hG => ?_)
  obtain ⟨⟨b0, b1, b2, b3, b4, b5⟩, hz, rfl⟩ := hp
  have hok := FF_ok mv d
  rw [← hz] at hok
  have hok9 := hok
  unfold fOk at hok9
  simp only [] at hok9
  refine lv_aload_n hx hb dX1_strength_8 rfl (lv_at hl 0 rfl) ?_
  refine lv_iload_n hx hb dX1_strength_9 rfl (lv_at hl 1 rfl) ?_
  refine xc_vi (n := 1) (rest := []) (ci := 1) (q0 := 0) hC hG (mX1_player l D ad ca mv bf d b0 b1 b2 b3 b4 b5 x1) (lw_V q181 q183 qs9 q19 q184) (by decide +kernel) rfl rfl (by rw [hR]; exact ⟨Nat.le_of_ble_eq_true rfl, Nat.le_of_ble_eq_true rfl⟩) rfl rfl rfl hl.1 rfl (Nat.le_of_ble_eq_true rfl) dX1_strength_10 (fun r u H locs hp hG => ?_)
  obtain ⟨rfl, hp⟩ := hp
  rcases isP_cases hp with ⟨rfl, rfl⟩ | ⟨rfl, rfl⟩ | ⟨rfl, hB1⟩
  · refine n_if_eq (by omega) hx hb (tgt := 25) dX1_strength_13 (by decide) (fun h13 => absurd h13 (by omega)) (fun h13 => ?_)
    refine lv_aload_n hx hb dX1_strength_16 rfl (lv_at hl 0 rfl) ?_
    refine k_f_po hC hG dX1_strength_17 ?_
    refine lv_iload_n hx hb dX1_strength_20 rfl (lv_at hl 1 rfl) ?_
    refine k_l_h0 hC hG dX1_strength_21 ?_
    refine lv_goto (tgt := 26) hx hb dX1_strength_22 (by decide) ?_
    exact hret _ _ _ _ _ _ hG (⟨⟨_, rfl⟩, by rw [← hz]; first | exact Or.inl ⟨rfl, rfl⟩ | exact Or.inr (Or.inl ⟨rfl, rfl⟩) | exact Or.inr (Or.inr ⟨hB1, rfl⟩)⟩) rfl dX1_strength_26
  · refine n_if_eq (by omega) hx hb (tgt := 25) dX1_strength_13 (by decide) (fun h13 => absurd h13 (by omega)) (fun h13 => ?_)
    refine lv_aload_n hx hb dX1_strength_16 rfl (lv_at hl 0 rfl) ?_
    refine k_f_po hC hG dX1_strength_17 ?_
    refine lv_iload_n hx hb dX1_strength_20 rfl (lv_at hl 1 rfl) ?_
    refine k_l_h1 hC hG dX1_strength_21 ?_
    refine lv_goto (tgt := 26) hx hb dX1_strength_22 (by decide) ?_
    exact hret _ _ _ _ _ _ hG (⟨⟨_, rfl⟩, by rw [← hz]; first | exact Or.inl ⟨rfl, rfl⟩ | exact Or.inr (Or.inl ⟨rfl, rfl⟩) | exact Or.inr (Or.inr ⟨hB1, rfl⟩)⟩) rfl dX1_strength_26
  · refine n_if_eq (by omega) hx hb (tgt := 25) dX1_strength_13 (by decide) (fun h13 => ?_) (fun h13 => absurd h13 (by omega))
    refine lv_iconst (v := (-1)) hx hb dX1_strength_25 (by decide) ?_
    exact hret _ _ _ _ _ _ hG (⟨⟨_, rfl⟩, by rw [← hz]; first | exact Or.inl ⟨rfl, rfl⟩ | exact Or.inr (Or.inl ⟨rfl, rfl⟩) | exact Or.inr (Or.inr ⟨hB1, rfl⟩)⟩) rfl dX1_strength_26

set_option maxHeartbeats 4000000 in
set_option maxRecDepth 100000 in
theorem mX1_pause (l : Launch) (D : va_G) (ad : Nat → Nat) (ca : Nat → ClassId) (mv bf : Nat → Nat) (d p0 p1 h0 h1 w0 w1 : Nat) (hM : ∀ i, i < 80 → mv i < 5) (hd : d ≤ 40) (x1 : Int32) : XMi l yX1_pause (ws_ yX1_pause cX1_pause 2 (some .int)) ({ frames := 3, cells := 0, slots := 0, locals := 73 }) D (mw ad ca) (mt ca) [.ref (ad 0), .int x1] (mv, bf, d, p0, p1, h0, h1, w0, w1) (fun r u => (∃ z : Fi, u = (mv, bf, d, z)) ∧ aSel (FF mv d).2.2.2.2.1 (FF mv d).2.2.2.2.2 x1 r) := by
  refine xe_i (own := RX1) (by decide) rfl (Nat.le_of_ble_eq_true rfl) ?_
  intro p e s m below meth c A R args Q hR hC hret H locs hG ls hl
  obtain ⟨hx, hb, hml, hown, hts, hK, hA⟩ := id hC
  have hl : lv_has ls 2 [(0, .ref (ad 0)), (1, .int x1)] := hl
  refine lv_aload_n hx hb dX1_pause_0 rfl (lv_at hl 0 rfl) ?_
  refine lv_aload_n hx hb dX1_pause_1 rfl (lv_at hl 0 rfl) ?_
  refine k_f_d hC hG dX1_pause_2 ?_
  refine xc_vv (n := 1) (rest := []) (ci := 1) (q0 := 0) hC hG (mX1_play l D ad ca mv bf d p0 p1 h0 h1 w0 w1 hM d hd) (lw_V q193 q195 qs12 q19 q196) (by decide +kernel) rfl rfl (by rw [hR]; exact ⟨Nat.le_of_ble_eq_true rfl, Nat.le_of_ble_eq_true rfl⟩) rfl rfl rfl hl.1 rfl (Nat.le_of_ble_eq_true rfl) dX1_pause_5 (fun u H locs hp hG => ?_)
  obtain ⟨⟨b0, b1, b2, b3, b4, b5⟩, hz, rfl⟩ := hp
  have hok := FF_ok mv d
  rw [← hz] at hok
  have hok9 := hok
  unfold fOk at hok9
  simp only [] at hok9
  refine lv_aload_n hx hb dX1_pause_8 rfl (lv_at hl 0 rfl) ?_
  refine lv_iload_n hx hb dX1_pause_9 rfl (lv_at hl 1 rfl) ?_
  refine xc_vi (n := 1) (rest := []) (ci := 1) (q0 := 0) hC hG (mX1_player l D ad ca mv bf d b0 b1 b2 b3 b4 b5 x1) (lw_V q181 q183 qs9 q19 q184) (by decide +kernel) rfl rfl (by rw [hR]; exact ⟨Nat.le_of_ble_eq_true rfl, Nat.le_of_ble_eq_true rfl⟩) rfl rfl rfl hl.1 rfl (Nat.le_of_ble_eq_true rfl) dX1_pause_10 (fun r u H locs hp hG => ?_)
  obtain ⟨rfl, hp⟩ := hp
  rcases isP_cases hp with ⟨rfl, rfl⟩ | ⟨rfl, rfl⟩ | ⟨rfl, hB1⟩
  · refine n_if_eq (by omega) hx hb (tgt := 25) dX1_pause_13 (by decide) (fun h13 => absurd h13 (by omega)) (fun h13 => ?_)
    refine lv_aload_n hx hb dX1_pause_16 rfl (lv_at hl 0 rfl) ?_
    refine k_f_pa hC hG dX1_pause_17 ?_
    refine lv_iload_n hx hb dX1_pause_20 rfl (lv_at hl 1 rfl) ?_
    refine k_l_w0 hC hG dX1_pause_21 ?_
    refine lv_goto (tgt := 26) hx hb dX1_pause_22 (by decide) ?_
    exact hret _ _ _ _ _ _ hG (⟨⟨_, rfl⟩, by rw [← hz]; first | exact Or.inl ⟨rfl, rfl⟩ | exact Or.inr (Or.inl ⟨rfl, rfl⟩) | exact Or.inr (Or.inr ⟨hB1, rfl⟩)⟩) rfl dX1_pause_26
  · refine n_if_eq (by omega) hx hb (tgt := 25) dX1_pause_13 (by decide) (fun h13 => absurd h13 (by omega)) (fun h13 => ?_)
    refine lv_aload_n hx hb dX1_pause_16 rfl (lv_at hl 0 rfl) ?_
    refine k_f_pa hC hG dX1_pause_17 ?_
    refine lv_iload_n hx hb dX1_pause_20 rfl (lv_at hl 1 rfl) ?_
    refine k_l_w1 hC hG dX1_pause_21 ?_
    refine lv_goto (tgt := 26) hx hb dX1_pause_22 (by decide) ?_
    exact hret _ _ _ _ _ _ hG (⟨⟨_, rfl⟩, by rw [← hz]; first | exact Or.inl ⟨rfl, rfl⟩ | exact Or.inr (Or.inl ⟨rfl, rfl⟩) | exact Or.inr (Or.inr ⟨hB1, rfl⟩)⟩) rfl dX1_pause_26
  · refine n_if_eq (by omega) hx hb (tgt := 25) dX1_pause_13 (by decide) (fun h13 => ?_) (fun h13 => absurd h13 (by omega))
    refine lv_iconst (v := (-1)) hx hb dX1_pause_25 (by decide) ?_
    exact hret _ _ _ _ _ _ hG (⟨⟨_, rfl⟩, by rw [← hz]; first | exact Or.inl ⟨rfl, rfl⟩ | exact Or.inr (Or.inl ⟨rfl, rfl⟩) | exact Or.inr (Or.inr ⟨hB1, rfl⟩)⟩) rfl dX1_pause_26

set_option maxHeartbeats 4000000 in
set_option maxRecDepth 100000 in
theorem mX1_shown (l : Launch) (D : va_G) (ad : Nat → Nat) (ca : Nat → ClassId) (mv bf : Nat → Nat) (d p0 p1 h0 h1 w0 w1 : Nat) (hM : ∀ i, i < 80 → mv i < 5) (hd : d ≤ 40) (x1 : Int32) : XMi l yX1_shown (ws_ yX1_shown cX1_shown 2 (some .int)) ({ frames := 4, cells := 0, slots := 0, locals := 94 }) D (mw ad ca) (mt ca) [.ref (ad 0), .int x1] (mv, bf, d, p0, p1, h0, h1, w0, w1) (fun r u => (∃ z : Fi, u = (mv, bf, d, z)) ∧ aIdx 41 (fun j => nI (pic (FF mv j))) x1 r) := by
  refine xe_i (own := RX1) (by decide) rfl (Nat.le_of_ble_eq_true rfl) ?_
  intro p e s m below meth c A R args Q hR hC hret H locs hG ls hl
  obtain ⟨hx, hb, hml, hown, hts, hK, hA⟩ := id hC
  have hl : lv_has ls 2 [(0, .ref (ad 0)), (1, .int x1)] := hl
  refine lv_iload_n hx hb dX1_shown_0 rfl (lv_at hl 1 rfl) ?_
  refine lv_if_lt hx hb (tgt := 10) dX1_shown_1 (by decide) (fun hq1 => ?_) (fun hq1 => ?_)
  · refine lv_iconst (v := (-1)) hx hb dX1_shown_10 (by decide) ?_
    refine lv_goto (tgt := 19) hx hb dX1_shown_11 (by decide) ?_
    exact hret _ _ _ _ _ _ hG (⟨⟨_, rfl⟩, by first | exact Or.inl ⟨j, hj, rfl, rfl⟩ | exact Or.inr ⟨inB_neg (by decide) hq1, rfl⟩ | exact Or.inr ⟨inB_big' (n := 40) (by decide) hq7, rfl⟩⟩) rfl dX1_shown_19
  · refine lv_iload_n hx hb dX1_shown_4 rfl (lv_at hl 1 rfl) ?_
    refine lv_bipush (v := nI 40) hx hb dX1_shown_5 (by decide) ?_
    refine lv_icmp_le hx hb (tgt := 14) dX1_shown_7 (by decide) (fun hq7 => ?_) (fun hq7 => ?_)
    · obtain ⟨j, hj, rfl⟩ := inB_mk' (n := 40) (by decide) hq1 hq7
      refine lv_aload_n hx hb dX1_shown_14 rfl (lv_at hl 0 rfl) ?_
      refine lv_iload_n hx hb dX1_shown_15 rfl (lv_at hl 1 rfl) ?_
      refine xc_vi (n := 1) (rest := []) (ci := 1) (q0 := 0) hC hG (mX1_picture l D ad ca mv bf d p0 p1 h0 h1 w0 w1 hM j (by omega)) (lw_V q189 q191 qs11 q19 q192) (by decide +kernel) rfl rfl (by rw [hR]; exact ⟨Nat.le_of_ble_eq_true rfl, Nat.le_of_ble_eq_true rfl⟩) rfl rfl rfl hl.1 rfl (Nat.le_of_ble_eq_true rfl) dX1_shown_16 (fun r u H locs hp hG => ?_)
      obtain ⟨⟨⟨b0, b1, b2, b3, b4, b5⟩, rfl⟩, rfl⟩ := hp
      have hpl := pic_lt (FF_ok mv j)
      exact hret _ _ _ _ _ _ hG (⟨⟨_, rfl⟩, by first | exact Or.inl ⟨j, hj, rfl, rfl⟩ | exact Or.inr ⟨inB_neg (by decide) hq1, rfl⟩ | exact Or.inr ⟨inB_big' (n := 40) (by decide) hq7, rfl⟩⟩) rfl dX1_shown_19
    · refine lv_iconst (v := (-1)) hx hb dX1_shown_10 (by decide) ?_
      refine lv_goto (tgt := 19) hx hb dX1_shown_11 (by decide) ?_
      exact hret _ _ _ _ _ _ hG (⟨⟨_, rfl⟩, by first | exact Or.inl ⟨j, hj, rfl, rfl⟩ | exact Or.inr ⟨inB_neg (by decide) hq1, rfl⟩ | exact Or.inr ⟨inB_big' (n := 40) (by decide) hq7, rfl⟩⟩) rfl dX1_shown_19

set_option maxHeartbeats 4000000 in
set_option maxRecDepth 100000 in
theorem mX1_move (l : Launch) (D : va_G) (ad : Nat → Nat) (ca : Nat → ClassId) (mv bf : Nat → Nat) (d p0 p1 h0 h1 w0 w1 : Nat) (hM : ∀ i, i < 80 → mv i < 5) (hd : d ≤ 40) (x1 x2 : Int32) : XMi l yX1_move (ws_ yX1_move cX1_move 3 (some .int)) ({ frames := 1, cells := 0, slots := 0, locals := 24 }) D (mw ad ca) (mt ca) [.ref (ad 0), .int x1, .int x2] (mv, bf, d, p0, p1, h0, h1, w0, w1) (fun r u => (∃ z : Fi, u = (mv, bf, d, z)) ∧ aMove mv x1 x2 r) := by
  refine xe_i (own := RX1) (by decide) rfl (Nat.le_of_ble_eq_true rfl) ?_
  intro p e s m below meth c A R args Q hR hC hret H locs hG ls hl
  obtain ⟨hx, hb, hml, hown, hts, hK, hA⟩ := id hC
  have hl : lv_has ls 3 [(0, .ref (ad 0)), (1, .int x1), (2, .int x2)] := hl
  refine lv_aload_n hx hb dX1_move_0 rfl (lv_at hl 0 rfl) ?_
  refine lv_iload_n hx hb dX1_move_1 rfl (lv_at hl 1 rfl) ?_
  refine xc_vi (n := 1) (rest := []) (ci := 1) (q0 := 0) hC hG (mX1_player l D ad ca mv bf d p0 p1 h0 h1 w0 w1 x1) (lw_V q181 q183 qs9 q19 q184) (by decide +kernel) rfl rfl (by rw [hR]; exact ⟨Nat.le_of_ble_eq_true rfl, Nat.le_of_ble_eq_true rfl⟩) rfl rfl rfl hl.1 rfl (Nat.le_of_ble_eq_true rfl) dX1_move_2 (fun r u H locs hp hG => ?_)
  obtain ⟨rfl, hp⟩ := hp
  rcases hp with ⟨rfl, j, hj, rfl⟩ | ⟨rfl, hB1⟩
  · refine n_if_eq (by omega) hx hb (tgt := 25) dX1_move_5 (by decide) (fun hq5 => absurd hq5 (by omega)) (fun hq5 => ?_)
    refine lv_aload_n hx hb dX1_move_8 rfl (lv_at hl 0 rfl) ?_
    refine lv_iload_n hx hb dX1_move_9 rfl (lv_at hl 2 rfl) ?_
    refine xc_vi (n := 1) (rest := []) (ci := 1) (q0 := 0) hC hG (mX1_frame l D ad ca mv bf d p0 p1 h0 h1 w0 w1 x2) (lw_V q185 q187 qs10 q19 q188) (by decide +kernel) rfl rfl (by rw [hR]; exact ⟨Nat.le_of_ble_eq_true rfl, Nat.le_of_ble_eq_true rfl⟩) rfl rfl rfl hl.1 rfl (Nat.le_of_ble_eq_true rfl) dX1_move_10 (fun r u H locs hp hG => ?_)
    obtain ⟨rfl, hp⟩ := hp
    rcases hp with ⟨rfl, f, hf, rfl⟩ | ⟨rfl, hB2⟩
    · refine n_if_eq (by omega) hx hb (tgt := 25) dX1_move_13 (by decide) (fun h13 => absurd h13 (by omega)) (fun h13 => ?_)
      refine lv_aload_n hx hb dX1_move_16 rfl (lv_at hl 0 rfl) ?_
      refine lv_iload_n hx hb dX1_move_17 rfl (lv_at hl 1 rfl) ?_
      refine lv_iload_n hx hb dX1_move_18 rfl (lv_at hl 2 rfl) ?_
      refine xc_vi (n := 2) (rest := []) (ci := 1) (q0 := 0) hC hG (mX1_used l D ad ca mv bf d p0 p1 h0 h1 w0 w1 hM j f hj hf) (lw_V q205 q207 qs15 q19 q208) (by decide +kernel) rfl rfl (by rw [hR]; exact ⟨Nat.le_of_ble_eq_true rfl, Nat.le_of_ble_eq_true rfl⟩) rfl rfl rfl hl.1 rfl (Nat.le_of_ble_eq_true rfl) dX1_move_19 (fun r u H locs hp hG => ?_)
      obtain ⟨rfl, rfl⟩ := hp
      refine lv_goto (tgt := 26) hx hb dX1_move_22 (by decide) ?_
      exact hret _ _ _ _ _ _ hG (⟨⟨_, rfl⟩, by first | exact Or.inl ⟨j, f, hj, hf, rfl, rfl, rfl⟩ | exact Or.inr ⟨Or.inl hB1, rfl⟩ | exact Or.inr ⟨Or.inr hB2, rfl⟩⟩) rfl dX1_move_26
    · refine n_if_eq (by omega) hx hb (tgt := 25) dX1_move_13 (by decide) (fun h13 => ?_) (fun h13 => absurd h13 (by omega))
      refine lv_iconst (v := (-1)) hx hb dX1_move_25 (by decide) ?_
      exact hret _ _ _ _ _ _ hG (⟨⟨_, rfl⟩, by first | exact Or.inl ⟨j, f, hj, hf, rfl, rfl, rfl⟩ | exact Or.inr ⟨Or.inl hB1, rfl⟩ | exact Or.inr ⟨Or.inr hB2, rfl⟩⟩) rfl dX1_move_26
  · refine n_if_eq (by omega) hx hb (tgt := 25) dX1_move_5 (by decide) (fun hq5 => ?_) (fun hq5 => absurd hq5 (by omega))
    refine lv_iconst (v := (-1)) hx hb dX1_move_25 (by decide) ?_
    exact hret _ _ _ _ _ _ hG (⟨⟨_, rfl⟩, by first | exact Or.inl ⟨j, f, hj, hf, rfl, rfl, rfl⟩ | exact Or.inr ⟨Or.inl hB1, rfl⟩ | exact Or.inr ⟨Or.inr hB2, rfl⟩⟩) rfl dX1_move_26

set_option maxHeartbeats 4000000 in
set_option maxRecDepth 100000 in
theorem mX1_missingP (l : Launch) (D : va_G) (ad : Nat → Nat) (ca : Nat → ClassId) (mv bf : Nat → Nat) (d p0 p1 h0 h1 w0 w1 : Nat) (hM : ∀ i, i < 80 → mv i < 5) (hd : d ≤ 40) (j : Nat) (hj : j < 2) : XMi l yX1_missing (ws_ yX1_missing cX1_missing 3 (some .int)) ({ frames := 1, cells := 0, slots := 0, locals := 21 }) D (mw ad ca) (mt ca) [.ref (ad 0), .int (nI j)] (mv, bf, d, p0, p1, h0, h1, w0, w1) (fun r u => (∃ z : Fi, u = (mv, bf, d, z)) ∧ aMiss mv (nI j) r) := by
  refine xe_i (own := RX1) (by decide) rfl (Nat.le_of_ble_eq_true rfl) ?_
  intro p e s m below meth c A R args Q hR hC hret H locs hG ls hl
  obtain ⟨hx, hb, hml, hown, hts, hK, hA⟩ := id hC
  have hl : lv_has ls 3 [(0, .ref (ad 0)), (1, .int (nI j))] := hl
  have J2 : ∀ (n : Nat) (f : Nat), (41 ≤ f + n) → (f ≤ 40) → (∀ k, k < f → mv (40 * j + k) ≠ 0) → ∀ (H : Heap) (locs : List Loc), xS D (mw ad ca) A s (mv, bf, d, p0, p1, h0, h1, w0, w1) H locs → ∀ ls : Array Slot, lv_has ls 3 [(2, .int (nI f)), (0, .ref (ad 0)), (1, .int (nI j))] → W p l e R s m args below meth c H locs 0 0 Q (F0 m 2 ls []) := by
    intro n
    induction n with
    | zero =>
      intro f hn hf40 hI
      exact absurd hn (by omega)
    | succ n ih =>
      intro f hn hf40 hI H locs hG ls hl
      refine lv_iload_n hx hb dX1_missing_2 rfl (lv_at hl 0 rfl) ?_
      refine lv_bipush (v := nI 40) hx hb dX1_missing_3 (by decide) ?_
      refine n_icmp_ge (by omega) hx hb (tgt := 38) dX1_missing_5 (by decide) (fun hq5 => ?_) (fun hq5 => ?_)
      · refine lv_aload_n hx hb dX1_missing_38 rfl (lv_at hl 1 rfl) ?_
        refine lv_iload_n hx hb dX1_missing_39 rfl (lv_at hl 2 rfl) ?_
        refine xc_vi (n := 1) (rest := []) (ci := 1) (q0 := 0) hC hG (mX1_player l D ad ca mv bf d p0 p1 h0 h1 w0 w1 (nI j)) (lw_V q181 q183 qs9 q19 q184) (by decide +kernel) rfl rfl (by rw [hR]; exact ⟨Nat.le_of_ble_eq_true rfl, Nat.le_of_ble_eq_true rfl⟩) rfl rfl rfl hl.1 rfl (Nat.le_of_ble_eq_true rfl) dX1_missing_40 (fun r u H locs hp hG => ?_)
        obtain ⟨rfl, hp⟩ := hp
        rcases hp with ⟨rfl, -⟩ | ⟨rfl, hB1⟩
        · refine n_if_eq (by omega) hx hb (tgt := 51) dX1_missing_43 (by decide) (fun h43 => absurd h43 (by omega)) (fun h43 => ?_)
          refine lv_bipush (v := (-2)) hx hb dX1_missing_46 (by decide) ?_
          refine lv_goto (tgt := 52) hx hb dX1_missing_48 (by decide) ?_
          exact hret _ _ _ _ _ _ hG (⟨⟨_, rfl⟩, Or.inl ⟨j, f, hj, rfl, ⟨hf40, hI, fun hlt => absurd hlt (by omega)⟩, by rw [if_neg (by omega)]⟩⟩) rfl dX1_missing_52
        · exact absurd ⟨j, hj, rfl⟩ hB1
      · refine lv_aload_n hx hb dX1_missing_8 rfl (lv_at hl 1 rfl) ?_
        refine lv_iload_n hx hb dX1_missing_9 rfl (lv_at hl 2 rfl) ?_
        refine xc_vi (n := 1) (rest := []) (ci := 1) (q0 := 0) hC hG (mX1_player l D ad ca mv bf d p0 p1 h0 h1 w0 w1 (nI j)) (lw_V q181 q183 qs9 q19 q184) (by decide +kernel) rfl rfl (by rw [hR]; exact ⟨Nat.le_of_ble_eq_true rfl, Nat.le_of_ble_eq_true rfl⟩) rfl rfl rfl hl.1 rfl (Nat.le_of_ble_eq_true rfl) dX1_missing_10 (fun r u H locs hp hG => ?_)
        obtain ⟨rfl, hp⟩ := hp
        rcases hp with ⟨rfl, -⟩ | ⟨rfl, hB1⟩
        · refine n_if_eq (by omega) hx hb (tgt := 38) dX1_missing_13 (by decide) (fun h13 => absurd h13 (by omega)) (fun h13 => ?_)
          refine lv_aload_n hx hb dX1_missing_16 rfl (lv_at hl 1 rfl) ?_
          refine k_f_mv hC hG dX1_missing_17 ?_
          refine lv_bipush (v := nI 40) hx hb dX1_missing_20 (by decide) ?_
          refine lv_iload_n hx hb dX1_missing_22 rfl (lv_at hl 2 rfl) ?_
          refine n_mul hx hb dX1_missing_23 ?_
          refine lv_iload_n hx hb dX1_missing_24 rfl (lv_at hl 0 rfl) ?_
          refine n_add hx hb dX1_missing_25 ?_
          have hm1 := hM (40 * j + f) (by omega)
          refine k_l_mv (by omega) hC hG dX1_missing_26 ?_
          refine n_if_ne (by omega) hx hb (tgt := 32) dX1_missing_27 (by decide) (fun h27 => ?_) (fun h27 => ?_)
          · refine lv_iinc (v := nI (f + 1)) (lv' := [(2, .int (nI (f + 1))), (0, .ref (ad 0)), (1, .int (nI j))]) hx hb dX1_missing_32 hl (k := 0) rfl (inc1 _) (by decide) rfl (fun ls hl => ?_)
            refine lv_goto (tgt := 2) hx hb dX1_missing_35 (by decide) ?_
            exact ih (f + 1) (by omega) (by omega) (by first | exact lt_0 | exact lt_s hI h27) _ _ hG ls (lv_sub hl [0, 1, 2] rfl)
          · refine lv_iload_n hx hb dX1_missing_30 rfl (lv_at hl 0 rfl) ?_
            exact hret _ _ _ _ _ _ hG (⟨⟨_, rfl⟩, Or.inl ⟨j, f, hj, rfl, ⟨hf40, hI, fun _ => h27⟩, by rw [if_pos (by omega)]⟩⟩) rfl dX1_missing_31
        · exact absurd ⟨j, hj, rfl⟩ hB1
  refine lv_iconst (v := nI 0) hx hb dX1_missing_0 (by decide) ?_
  refine lv_istore_n (lv' := [(2, .int (nI 0)), (0, .ref (ad 0)), (1, .int (nI j))]) hx hb dX1_missing_1 rfl hl (by decide) rfl (fun ls hl => ?_)
  exact J2 41 0 (by omega) (by omega) (by first | exact lt_0 | exact lt_s hI h27) _ _ hG ls (lv_sub hl [0, 1, 2] rfl)

set_option maxHeartbeats 4000000 in
set_option maxRecDepth 100000 in
theorem mX1_missingN (l : Launch) (D : va_G) (ad : Nat → Nat) (ca : Nat → ClassId) (mv bf : Nat → Nat) (d p0 p1 h0 h1 w0 w1 : Nat) (hM : ∀ i, i < 80 → mv i < 5) (hd : d ≤ 40) (x1 : Int32) (hB : ¬ inB 2 x1) : XMi l yX1_missing (ws_ yX1_missing cX1_missing 3 (some .int)) ({ frames := 1, cells := 0, slots := 0, locals := 21 }) D (mw ad ca) (mt ca) [.ref (ad 0), .int x1] (mv, bf, d, p0, p1, h0, h1, w0, w1) (fun r u => (∃ z : Fi, u = (mv, bf, d, z)) ∧ aMiss mv x1 r) := by
  refine xe_i (own := RX1) (by decide) rfl (Nat.le_of_ble_eq_true rfl) ?_
  intro p e s m below meth c A R args Q hR hC hret H locs hG ls hl
  obtain ⟨hx, hb, hml, hown, hts, hK, hA⟩ := id hC
  have hl : lv_has ls 3 [(0, .ref (ad 0)), (1, .int x1)] := hl
  refine lv_iconst (v := nI 0) hx hb dX1_missing_0 (by decide) ?_
  refine lv_istore_n (lv' := [(2, .int (nI 0)), (0, .ref (ad 0)), (1, .int x1)]) hx hb dX1_missing_1 rfl hl (by decide) rfl (fun ls hl => ?_)
  refine lv_iload_n hx hb dX1_missing_2 rfl (lv_at hl 0 rfl) ?_
  refine lv_bipush (v := nI 40) hx hb dX1_missing_3 (by decide) ?_
  refine n_icmp_ge (by omega) hx hb (tgt := 38) dX1_missing_5 (by decide) (fun hq5 => absurd hq5 (by omega)) (fun hq5 => ?_)
  refine lv_aload_n hx hb dX1_missing_8 rfl (lv_at hl 1 rfl) ?_
  refine lv_iload_n hx hb dX1_missing_9 rfl (lv_at hl 2 rfl) ?_
  refine xc_vi (n := 1) (rest := []) (ci := 1) (q0 := 0) hC hG (mX1_player l D ad ca mv bf d p0 p1 h0 h1 w0 w1 x1) (lw_V q181 q183 qs9 q19 q184) (by decide +kernel) rfl rfl (by rw [hR]; exact ⟨Nat.le_of_ble_eq_true rfl, Nat.le_of_ble_eq_true rfl⟩) rfl rfl rfl hl.1 rfl (Nat.le_of_ble_eq_true rfl) dX1_missing_10 (fun r u H locs hp hG => ?_)
  obtain ⟨rfl, hp⟩ := hp
  rcases hp with ⟨rfl, hB1⟩ | ⟨rfl, -⟩
  · exact absurd hB1 hB
  · refine n_if_eq (by omega) hx hb (tgt := 38) dX1_missing_13 (by decide) (fun h13 => ?_) (fun h13 => absurd h13 (by omega))
    refine lv_aload_n hx hb dX1_missing_38 rfl (lv_at hl 1 rfl) ?_
    refine lv_iload_n hx hb dX1_missing_39 rfl (lv_at hl 2 rfl) ?_
    refine xc_vi (n := 1) (rest := []) (ci := 1) (q0 := 0) hC hG (mX1_player l D ad ca mv bf d p0 p1 h0 h1 w0 w1 x1) (lw_V q181 q183 qs9 q19 q184) (by decide +kernel) rfl rfl (by rw [hR]; exact ⟨Nat.le_of_ble_eq_true rfl, Nat.le_of_ble_eq_true rfl⟩) rfl rfl rfl hl.1 rfl (Nat.le_of_ble_eq_true rfl) dX1_missing_40 (fun r u H locs hp hG => ?_)
    obtain ⟨rfl, hp⟩ := hp
    rcases hp with ⟨rfl, hB1⟩ | ⟨rfl, -⟩
    · exact absurd hB1 hB
    · refine n_if_eq (by omega) hx hb (tgt := 51) dX1_missing_43 (by decide) (fun h43 => ?_) (fun h43 => absurd h43 (by omega))
      refine lv_iconst (v := (-1)) hx hb dX1_missing_51 (by decide) ?_
      exact hret _ _ _ _ _ _ hG (⟨⟨_, rfl⟩, Or.inr ⟨hB, rfl⟩⟩) rfl dX1_missing_52

theorem mX1_missing (l : Launch) (D : va_G) (ad : Nat → Nat) (ca : Nat → ClassId) (mv bf : Nat → Nat) (d p0 p1 h0 h1 w0 w1 : Nat) (hM : ∀ i, i < 80 → mv i < 5) (hd : d ≤ 40) (x1 : Int32) : XMi l yX1_missing (ws_ yX1_missing cX1_missing 3 (some .int)) ({ frames := 1, cells := 0, slots := 0, locals := 21 }) D (mw ad ca) (mt ca) [.ref (ad 0), .int x1] (mv, bf, d, p0, p1, h0, h1, w0, w1) (fun r u => (∃ z : Fi, u = (mv, bf, d, z)) ∧ aMiss mv x1 r) := by
  by_cases hB : inB 2 x1
  · obtain ⟨j, hj, rfl⟩ := hB
    exact mX1_missingP l D ad ca mv bf d p0 p1 h0 h1 w0 w1 hM hd j hj
  · exact mX1_missingN l D ad ca mv bf d p0 p1 h0 h1 w0 w1 hM hd x1 hB

set_option maxHeartbeats 4000000 in
set_option maxRecDepth 100000 in
theorem mX1_winner (l : Launch) (D : va_G) (ad : Nat → Nat) (ca : Nat → ClassId) (mv bf : Nat → Nat) (d p0 p1 h0 h1 w0 w1 : Nat) (hM : ∀ i, i < 80 → mv i < 5) (hd : d ≤ 40) (x1 : Int32) : XMi l yX1_winner (ws_ yX1_winner cX1_winner 2 (some .int)) ({ frames := 3, cells := 0, slots := 0, locals := 73 }) D (mw ad ca) (mt ca) [.ref (ad 0), .int x1] (mv, bf, d, p0, p1, h0, h1, w0, w1) (fun r u => (∃ z : Fi, u = (mv, bf, d, z)) ∧ aIdx 41 (fun j => fWin (FF mv j)) x1 r) := by
  refine xe_i (own := RX1) (by decide) rfl (Nat.le_of_ble_eq_true rfl) ?_
  intro p e s m below meth c A R args Q hR hC hret H locs hG ls hl
  obtain ⟨hx, hb, hml, hown, hts, hK, hA⟩ := id hC
  have hl : lv_has ls 2 [(0, .ref (ad 0)), (1, .int x1)] := hl
  refine lv_iload_n hx hb dX1_winner_0 rfl (lv_at hl 1 rfl) ?_
  refine lv_if_lt hx hb (tgt := 10) dX1_winner_1 (by decide) (fun hq1 => ?_) (fun hq1 => ?_)
  · refine lv_iconst (v := (-1)) hx hb dX1_winner_10 (by decide) ?_
    exact hret _ _ _ _ _ _ hG (⟨⟨_, rfl⟩, by first | exact Or.inr ⟨inB_neg (by decide) hq1, rfl⟩ | exact Or.inr ⟨inB_big' (n := 40) (by decide) hq7, rfl⟩ | (refine Or.inl ⟨j, hj, rfl, ?_⟩; show _ = fWin (FF mv j); rw [← hz]; unfold fWin; grind)⟩) rfl dX1_winner_11
  · refine lv_iload_n hx hb dX1_winner_4 rfl (lv_at hl 1 rfl) ?_
    refine lv_bipush (v := nI 40) hx hb dX1_winner_5 (by decide) ?_
    refine lv_icmp_le hx hb (tgt := 12) dX1_winner_7 (by decide) (fun hq7 => ?_) (fun hq7 => ?_)
    · obtain ⟨j, hj, rfl⟩ := inB_mk' (n := 40) (by decide) hq1 hq7
      refine lv_aload_n hx hb dX1_winner_12 rfl (lv_at hl 0 rfl) ?_
      refine lv_iload_n hx hb dX1_winner_13 rfl (lv_at hl 1 rfl) ?_
      refine xc_vv (n := 1) (rest := []) (ci := 1) (q0 := 0) hC hG (mX1_play l D ad ca mv bf d p0 p1 h0 h1 w0 w1 hM j (by omega)) (lw_V q193 q195 qs12 q19 q196) (by decide +kernel) rfl rfl (by rw [hR]; exact ⟨Nat.le_of_ble_eq_true rfl, Nat.le_of_ble_eq_true rfl⟩) rfl rfl rfl hl.1 rfl (Nat.le_of_ble_eq_true rfl) dX1_winner_14 (fun u H locs hp hG => ?_)
      obtain ⟨⟨b0, b1, b2, b3, b4, b5⟩, hz, rfl⟩ := hp
      have hok := FF_ok mv j
      rw [← hz] at hok
      have hok9 := hok
      unfold fOk at hok9
      simp only [] at hok9
      refine lv_aload_n hx hb dX1_winner_17 rfl (lv_at hl 0 rfl) ?_
      refine xc_vi (n := 0) (rest := []) (ci := 1) (q0 := 0) hC hG (mX1_over l D ad ca mv bf d b0 b1 b2 b3 b4 b5 ⟨by omega, by omega⟩) (lw_V q197 q199 qs13 q19 q200) (by decide +kernel) rfl rfl (by rw [hR]; exact ⟨Nat.le_of_ble_eq_true rfl, Nat.le_of_ble_eq_true rfl⟩) rfl rfl rfl hl.1 rfl (Nat.le_of_ble_eq_true rfl) dX1_winner_18 (fun r u H locs hp hG => ?_)
      obtain ⟨rfl, hp⟩ := hp
      rcases hp with ⟨rfl, ho⟩ | ⟨rfl, ho⟩
      · refine n_if_ne (by omega) hx hb (tgt := 29) dX1_winner_21 (by decide) (fun h21 => ?_) (fun h21 => absurd h21 (by omega))
        refine lv_aload_n hx hb dX1_winner_29 rfl (lv_at hl 0 rfl) ?_
        refine k_f_po hC hG dX1_winner_30 ?_
        refine lv_iconst (v := nI 0) hx hb dX1_winner_33 (by decide) ?_
        refine k_l_h0 hC hG dX1_winner_34 ?_
        refine n_if_le (by omega) hx hb (tgt := 42) dX1_winner_35 (by decide) (fun h35 => ?_) (fun h35 => ?_)
        · refine lv_aload_n hx hb dX1_winner_42 rfl (lv_at hl 0 rfl) ?_
          refine k_f_po hC hG dX1_winner_43 ?_
          refine lv_iconst (v := nI 1) hx hb dX1_winner_46 (by decide) ?_
          refine k_l_h1 hC hG dX1_winner_47 ?_
          refine n_if_le (by omega) hx hb (tgt := 55) dX1_winner_48 (by decide) (fun h48 => ?_) (fun h48 => ?_)
          · refine lv_iconst (v := nI 2) hx hb dX1_winner_55 (by decide) ?_
            exact hret _ _ _ _ _ _ hG (⟨⟨_, rfl⟩, by first | exact Or.inr ⟨inB_neg (by decide) hq1, rfl⟩ | exact Or.inr ⟨inB_big' (n := 40) (by decide) hq7, rfl⟩ | (refine Or.inl ⟨j, hj, rfl, ?_⟩; show _ = fWin (FF mv j); rw [← hz]; unfold fWin; grind)⟩) rfl dX1_winner_56
          · refine lv_iconst (v := nI 1) hx hb dX1_winner_51 (by decide) ?_
            refine lv_goto (tgt := 56) hx hb dX1_winner_52 (by decide) ?_
            exact hret _ _ _ _ _ _ hG (⟨⟨_, rfl⟩, by first | exact Or.inr ⟨inB_neg (by decide) hq1, rfl⟩ | exact Or.inr ⟨inB_big' (n := 40) (by decide) hq7, rfl⟩ | (refine Or.inl ⟨j, hj, rfl, ?_⟩; show _ = fWin (FF mv j); rw [← hz]; unfold fWin; grind)⟩) rfl dX1_winner_56
        · refine lv_iconst (v := nI 0) hx hb dX1_winner_38 (by decide) ?_
          refine lv_goto (tgt := 56) hx hb dX1_winner_39 (by decide) ?_
          exact hret _ _ _ _ _ _ hG (⟨⟨_, rfl⟩, by first | exact Or.inr ⟨inB_neg (by decide) hq1, rfl⟩ | exact Or.inr ⟨inB_big' (n := 40) (by decide) hq7, rfl⟩ | (refine Or.inl ⟨j, hj, rfl, ?_⟩; show _ = fWin (FF mv j); rw [← hz]; unfold fWin; grind)⟩) rfl dX1_winner_56
      · refine n_if_ne (by omega) hx hb (tgt := 29) dX1_winner_21 (by decide) (fun h21 => absurd h21 (by omega)) (fun h21 => ?_)
        refine lv_bipush (v := (-2)) hx hb dX1_winner_24 (by decide) ?_
        refine lv_goto (tgt := 56) hx hb dX1_winner_26 (by decide) ?_
        exact hret _ _ _ _ _ _ hG (⟨⟨_, rfl⟩, by first | exact Or.inr ⟨inB_neg (by decide) hq1, rfl⟩ | exact Or.inr ⟨inB_big' (n := 40) (by decide) hq7, rfl⟩ | (refine Or.inl ⟨j, hj, rfl, ?_⟩; show _ = fWin (FF mv j); rw [← hz]; unfold fWin; grind)⟩) rfl dX1_winner_56
    · refine lv_iconst (v := (-1)) hx hb dX1_winner_10 (by decide) ?_
      exact hret _ _ _ _ _ _ hG (⟨⟨_, rfl⟩, by first | exact Or.inr ⟨inB_neg (by decide) hq1, rfl⟩ | exact Or.inr ⟨inB_big' (n := 40) (by decide) hq7, rfl⟩ | (refine Or.inl ⟨j, hj, rfl, ?_⟩; show _ = fWin (FF mv j); rw [← hz]; unfold fWin; grind)⟩) rfl dX1_winner_11

set_option maxHeartbeats 4000000 in
set_option maxRecDepth 100000 in
theorem mX1_overAfter (l : Launch) (D : va_G) (ad : Nat → Nat) (ca : Nat → ClassId) (mv bf : Nat → Nat) (d p0 p1 h0 h1 w0 w1 : Nat) (hM : ∀ i, i < 80 → mv i < 5) (hd : d ≤ 40) : XMi l yX1_overAfter (ws_ yX1_overAfter cX1_overAfter 2 (some .int)) ({ frames := 3, cells := 0, slots := 0, locals := 73 }) D (mw ad ca) (mt ca) [.ref (ad 0)] (mv, bf, d, p0, p1, h0, h1, w0, w1) (fun r u => (∃ z : Fi, u = (mv, bf, d, z)) ∧ aOver mv r) := by
  refine xe_i (own := RX1) (by decide) rfl (Nat.le_of_ble_eq_true rfl) ?_
  intro p e s m below meth c A R args Q hR hC hret H locs hG ls hl
  obtain ⟨hx, hb, hml, hown, hts, hK, hA⟩ := id hC
  have hl : lv_has ls 2 [(0, .ref (ad 0))] := hl
  have J2 : ∀ (n : Nat) (a0 : Nat) (a1 : Nat) (a2 : Nat) (a3 : Nat) (a4 : Nat) (a5 : Nat) (f : Nat), (42 ≤ f + n) → (f ≤ 41) → (∀ k, k < f → ¬ fOver (FF mv k)) → ∀ (H : Heap) (locs : List Loc), xS D (mw ad ca) A s (mv, bf, d, a0, a1, a2, a3, a4, a5) H locs → ∀ ls : Array Slot, lv_has ls 2 [(1, .int (nI f)), (0, .ref (ad 0))] → W p l e R s m args below meth c H locs 0 0 Q (F0 m 2 ls []) := by
    intro n
    induction n with
    | zero =>
      intro a0 a1 a2 a3 a4 a5 f hn hf40 hI
      exact absurd hn (by omega)
    | succ n ih =>
      intro a0 a1 a2 a3 a4 a5 f hn hf40 hI H locs hG ls hl
      refine lv_iload_n hx hb dX1_overAfter_2 rfl (lv_at hl 0 rfl) ?_
      refine lv_bipush (v := nI 40) hx hb dX1_overAfter_3 (by decide) ?_
      refine n_icmp_gt (by omega) hx hb (tgt := 28) dX1_overAfter_5 (by decide) (fun hq5 => ?_) (fun hq5 => ?_)
      · refine lv_bipush (v := (-2)) hx hb dX1_overAfter_28 (by decide) ?_
        exact hret _ _ _ _ _ _ hG (⟨⟨_, rfl⟩, Or.inr ⟨fun k hk => hI k (by omega), rfl⟩⟩) rfl dX1_overAfter_30
      · refine lv_aload_n hx hb dX1_overAfter_8 rfl (lv_at hl 1 rfl) ?_
        refine lv_iload_n hx hb dX1_overAfter_9 rfl (lv_at hl 0 rfl) ?_
        refine xc_vv (n := 1) (rest := []) (ci := 1) (q0 := 0) hC hG (mX1_play l D ad ca mv bf d a0 a1 a2 a3 a4 a5 hM f (by omega)) (lw_V q193 q195 qs12 q19 q196) (by decide +kernel) rfl rfl (by rw [hR]; exact ⟨Nat.le_of_ble_eq_true rfl, Nat.le_of_ble_eq_true rfl⟩) rfl rfl rfl hl.1 rfl (Nat.le_of_ble_eq_true rfl) dX1_overAfter_10 (fun u H locs hp hG => ?_)
        obtain ⟨⟨b0, b1, b2, b3, b4, b5⟩, hz, rfl⟩ := hp
        have hok := FF_ok mv f
        rw [← hz] at hok
        have hok9 := hok
        unfold fOk at hok9
        simp only [] at hok9
        refine lv_aload_n hx hb dX1_overAfter_13 rfl (lv_at hl 1 rfl) ?_
        refine xc_vi (n := 0) (rest := []) (ci := 1) (q0 := 0) hC hG (mX1_over l D ad ca mv bf d b0 b1 b2 b3 b4 b5 ⟨by omega, by omega⟩) (lw_V q197 q199 qs13 q19 q200) (by decide +kernel) rfl rfl (by rw [hR]; exact ⟨Nat.le_of_ble_eq_true rfl, Nat.le_of_ble_eq_true rfl⟩) rfl rfl rfl hl.1 rfl (Nat.le_of_ble_eq_true rfl) dX1_overAfter_14 (fun r u H locs hp hG => ?_)
        obtain ⟨rfl, hp⟩ := hp
        rcases hp with ⟨rfl, ho⟩ | ⟨rfl, ho⟩
        · refine n_if_eq (by omega) hx hb (tgt := 22) dX1_overAfter_17 (by decide) (fun h17 => absurd h17 (by omega)) (fun h17 => ?_)
          refine lv_iload_n hx hb dX1_overAfter_20 rfl (lv_at hl 0 rfl) ?_
          exact hret _ _ _ _ _ _ hG (⟨⟨_, rfl⟩, Or.inl ⟨f, by omega, by rw [← hz]; exact ho, hI, rfl⟩⟩) rfl dX1_overAfter_21
        · refine n_if_eq (by omega) hx hb (tgt := 22) dX1_overAfter_17 (by decide) (fun h17 => ?_) (fun h17 => absurd h17 (by omega))
          refine lv_iinc (v := nI (f + 1)) (lv' := [(1, .int (nI (f + 1))), (0, .ref (ad 0))]) hx hb dX1_overAfter_22 hl (k := 0) rfl (inc1 _) (by decide) rfl (fun ls hl => ?_)
          refine lv_goto (tgt := 2) hx hb dX1_overAfter_25 (by decide) ?_
          exact ih b0 b1 b2 b3 b4 b5 (f + 1) (by omega) (by omega) (by first | exact lt_0 | exact lt_s hI (by rw [← hz]; exact ho)) _ _ hG ls (lv_sub hl [0, 1] rfl)
  refine lv_iconst (v := nI 0) hx hb dX1_overAfter_0 (by decide) ?_
  refine lv_istore_n (lv' := [(1, .int (nI 0)), (0, .ref (ad 0))]) hx hb dX1_overAfter_1 rfl hl (by decide) rfl (fun ls hl => ?_)
  exact J2 42 p0 p1 h0 h1 w0 w1 0 (by omega) (by omega) (by first | exact lt_0 | exact lt_s hI (by rw [← hz]; exact ho)) _ _ hG ls (lv_sub hl [0, 1] rfl)

set_option maxHeartbeats 4000000 in
set_option maxRecDepth 100000 in
theorem mX1_settled (l : Launch) (D : va_G) (ad : Nat → Nat) (ca : Nat → ClassId) (mv bf : Nat → Nat) (d p0 p1 h0 h1 w0 w1 : Nat) (hM : ∀ i, i < 80 → mv i < 5) (hd : d ≤ 40) : XMi l yX1_settled (ws_ yX1_settled cX1_settled 2 (some .boolean)) ({ frames := 3, cells := 0, slots := 0, locals := 73 }) D (mw ad ca) (mt ca) [.ref (ad 0)] (mv, bf, d, p0, p1, h0, h1, w0, w1) (fun r u => (∃ z : Fi, u = (mv, bf, d, z)) ∧ aSet mv d r) := by
  refine xe_i (own := RX1) (by decide) rfl (Nat.le_of_ble_eq_true rfl) ?_
  intro p e s m below meth c A R args Q hR hC hret H locs hG ls hl
  obtain ⟨hx, hb, hml, hown, hts, hK, hA⟩ := id hC
  have hl : lv_has ls 2 [(0, .ref (ad 0))] := hl
  refine lv_aload_n hx hb dX1_settled_0 rfl (lv_at hl 0 rfl) ?_
  refine xc_vi (n := 0) (rest := []) (ci := 1) (q0 := 0) hC hG (mX1_sure l D ad ca mv bf d p0 p1 h0 h1 w0 w1 hM hd) (lw_V q262 q223 q224 q19 q225) (by decide +kernel) rfl rfl (by rw [hR]; exact ⟨Nat.le_of_ble_eq_true rfl, Nat.le_of_ble_eq_true rfl⟩) rfl rfl rfl hl.1 rfl (Nat.le_of_ble_eq_true rfl) dX1_settled_1 (fun r u H locs hp hG => ?_)
  obtain ⟨rfl, f, rfl, hs⟩ := hp
  have hs40 := hs.1
  refine lv_istore_n (lv' := [(1, .int (nI f)), (0, .ref (ad 0))]) hx hb dX1_settled_4 rfl hl (by decide) rfl (fun ls hl => ?_)
  refine lv_aload_n hx hb dX1_settled_5 rfl (lv_at hl 1 rfl) ?_
  refine lv_iload_n hx hb dX1_settled_6 rfl (lv_at hl 0 rfl) ?_
  refine xc_vv (n := 1) (rest := []) (ci := 1) (q0 := 0) hC hG (mX1_play l D ad ca mv bf d p0 p1 h0 h1 w0 w1 hM f hs40) (lw_V q193 q195 qs12 q19 q196) (by decide +kernel) rfl rfl (by rw [hR]; exact ⟨Nat.le_of_ble_eq_true rfl, Nat.le_of_ble_eq_true rfl⟩) rfl rfl rfl hl.1 rfl (Nat.le_of_ble_eq_true rfl) dX1_settled_7 (fun u H locs hp hG => ?_)
  obtain ⟨⟨b0, b1, b2, b3, b4, b5⟩, hz, rfl⟩ := hp
  have hok := FF_ok mv f
  rw [← hz] at hok
  have hok9 := hok
  unfold fOk at hok9
  simp only [] at hok9
  refine lv_aload_n hx hb dX1_settled_10 rfl (lv_at hl 1 rfl) ?_
  refine k_f_d hC hG dX1_settled_11 ?_
  refine lv_iload_n hx hb dX1_settled_14 rfl (lv_at hl 0 rfl) ?_
  refine n_icmp_le (by omega) hx hb (tgt := 25) dX1_settled_15 (by decide) (fun h15 => ?_) (fun h15 => ?_)
  · refine lv_iconst (v := nI 1) hx hb dX1_settled_25 (by decide) ?_
    refine lv_goto (tgt := 30) hx hb dX1_settled_26 (by decide) ?_
    exact hret _ _ _ _ _ _ hG (⟨⟨_, rfl⟩, f, hs, by rw [← hz]; first | exact Or.inl ⟨rfl, Or.inl h15⟩ | exact Or.inl ⟨rfl, Or.inr ho⟩ | exact Or.inr ⟨rfl, fun z => z.elim h15 ho⟩⟩) rfl dX1_settled_30
  · refine lv_aload_n hx hb dX1_settled_18 rfl (lv_at hl 1 rfl) ?_
    refine xc_vi (n := 0) (rest := []) (ci := 1) (q0 := 0) hC hG (mX1_over l D ad ca mv bf d b0 b1 b2 b3 b4 b5 ⟨by omega, by omega⟩) (lw_V q197 q199 qs13 q19 q200) (by decide +kernel) rfl rfl (by rw [hR]; exact ⟨Nat.le_of_ble_eq_true rfl, Nat.le_of_ble_eq_true rfl⟩) rfl rfl rfl hl.1 rfl (Nat.le_of_ble_eq_true rfl) dX1_settled_19 (fun r u H locs hp hG => ?_)
    obtain ⟨rfl, hp⟩ := hp
    rcases hp with ⟨rfl, ho⟩ | ⟨rfl, ho⟩
    · refine n_if_eq (by omega) hx hb (tgt := 29) dX1_settled_22 (by decide) (fun h22 => absurd h22 (by omega)) (fun h22 => ?_)
      refine lv_iconst (v := nI 1) hx hb dX1_settled_25 (by decide) ?_
      refine lv_goto (tgt := 30) hx hb dX1_settled_26 (by decide) ?_
      exact hret _ _ _ _ _ _ hG (⟨⟨_, rfl⟩, f, hs, by rw [← hz]; first | exact Or.inl ⟨rfl, Or.inl h15⟩ | exact Or.inl ⟨rfl, Or.inr ho⟩ | exact Or.inr ⟨rfl, fun z => z.elim h15 ho⟩⟩) rfl dX1_settled_30
    · refine n_if_eq (by omega) hx hb (tgt := 29) dX1_settled_22 (by decide) (fun h22 => ?_) (fun h22 => absurd h22 (by omega))
      refine lv_iconst (v := nI 0) hx hb dX1_settled_29 (by decide) ?_
      exact hret _ _ _ _ _ _ hG (⟨⟨_, rfl⟩, f, hs, by rw [← hz]; first | exact Or.inl ⟨rfl, Or.inl h15⟩ | exact Or.inl ⟨rfl, Or.inr ho⟩ | exact Or.inr ⟨rfl, fun z => z.elim h15 ho⟩⟩) rfl dX1_settled_30
end
section
/-! the two constructors -/
theorem ha_nF (N : Nat) (cA : ClassId) : vp_cell cA (N, .inl (nF (fun _ => 0))) = arrV cA N (fun _ => .int 0) := rfl
theorem tw00 : tw 0 0 = fun _ => 0 := by
  funext j
  unfold tw
  split
  · rfl
  · split <;> rfl
theorem ha_tw (cA : ClassId) : vp_cell cA (2, .inl (tw 0 0)) = arrV cA 2 (fun _ => .int 0) := by
  rw [vp_cell_i, tw00]
theorem U_zero (q k : Nat) : U (fun _ => 0) q k = 0 := by
  induction k with
  | zero => rfl
  | succ k ih =>
    show gs (U (fun _ => 0) q k) = 0
    rw [ih]; rfl
section XRC
variable {S : Type} {p : Program} {l : Launch} {e : Env} {R : Room} {s : State} {m : MethodId} {args : Array Value} {below : List Frame} {meth : Method} {c : Code} {H : Heap} {locs : List Loc} {Q : State → Prop} {cells slots : Nat}
variable {cc : ByteArray} {pc nL : Nat} {ls : Array Slot} {rest st : List Value} {D : va_G} {A : Nat → Prop} {tys : List (ClassId × FieldType)} {own : String} {wf : S → va_W} {g : S}
/-- a call through this object, with cells made before it -/
theorem xc_viC {y : MethodName} {bytes : ByteArray} {maxL : Nat} {ty : FieldType} {rm : Room} {As : List Value} {b idx n ci q0 : Nat} {C : String} {T : u_T} {N : Nat} {fs : List Value} {post : Int32 → S → Prop}
    (hcs : cells ≤ R.cells ∧ slots ≤ R.slots) (hC : xC p s m c cc nL own args A D tys) (hG : xS D wf A s g H locs) (hM : XMi l y (ws_ y bytes maxL (some ty)) rm D wf tys (.ref b :: As) g post) (hq : GoodIn lw_all (wsV own idx C y (ws_ y bytes maxL (some ty))))
    (hd : y.cls = C ∧ y.cls ≠ "java/lang/invoke/MethodHandle" ∧ y.cls ≠ "java/lang/invoke/VarHandle" ∧ (parseMethodDescriptor y.desc).map (fun d => d.parameters.length) = some n) (hrc : rm.cells = 0) (hrs : rm.slots = 0) (hR : rm.frames + 1 ≤ R.frames ∧ 8 + (maxL + 11) + rm.locals ≤ R.locals)
    (hc : vwCl[ci]? = some (C, T, N)) (he : (wf g)[q0]? = some (b, .inr (ci, fs))) (hn : As.length = n) (hls : ls.size = nL) (hst : st = As.reverse ++ .ref b :: rest) (h8 : (rest.map fun v => v.category).sum ≤ 8) (hdg : decode cc pc = .ok (.invokevirtual idx, 3))
    (kk : ∀ (r : Int32) (u : S) (H : Heap) (locs : List Loc), post r u → xS D wf A s u H locs → W p l e R s m args below meth c H locs cells slots Q (F0 m (pc + 3) ls (.int r :: rest))) : W p l e R s m args below meth c H locs cells slots Q (F0 m pc ls st) := by
  have hF := xS_free hC hG
  obtain ⟨hx, hb, hml, hown, hts, hK, hA⟩ := hC
  refine va_calli (va_runV (As := As) (rest := rest) ⟨hx, hb, hml, hown, hts⟩ (hM H.size) (cwV n hts hq rfl hrc hrs hd hR) ⟨xPc_blind, va_recv hK hG.1 hc he, fun U hU hW => ⟨rfl, by rw [hU], by rw [hU]; exact hG.1, va_K.moved hW.alike hK, hG.2.1.weaken (fun _ _ _ _ => trivial)⟩⟩ rfl hn hls hst (lv_room h8) hdg ⟨hcs.1, hcs.2⟩) hG.2.2 (fun q _ h => hF q h) hF (fun r u t H1 locs1 ht hvm hp hB hz hk hS1 => ?_)
  obtain ⟨hP1, hK1, hD1⟩ := hB
  exact kk r u H1 locs1 hp ⟨by rw [← ht]; exact hP1, hD1.weaken (fun k q _ h => hF q.1 h), hS1⟩
end XRC
set_option maxHeartbeats 4000000 in
set_option maxRecDepth 100000 in
theorem mX0_init (l : Launch) (D : va_G) (o sz : Nat) : Met l yX0_init (ws_ yX0_init cX0_init 1 none) ({ frames := 3, cells := 6, slots := 207, locals := 76 }) (va_Pc [.ref o] (fun U => U.heap.size = sz ∧ va_P D vwCl [(o, .inr (0, [.null, .null, .null, .int (nI 0), .null, .null, .null]))] U.heap ∧ va_K D vwCl [] U ∧ va_D (fun _ => True) [(o, .inr (0, [.null, .null, .null, .int (nI 0), .null, .null, .null]))])) (va_Qv (fun u : (Nat → Nat) × (Nat → ClassId) × S0 => u.1 0 = o ∧ ∃ (ar us sv : Nat → Nat) (z : Fi), u.2.2 = (ar, us, sv, 0, z) ∧ gOK (fun _ => 0) 0 ar us sv) (fun u t => va_P D vwCl (gw u.1 u.2.1 u.2.2) t.heap ∧ va_K D vwCl (gt u.2.1) t ∧ va_D (va_A [(o, .inr (0, [.null, .null, .null, .int (nI 0), .null, .null, .null]))] sz) (gw u.1 u.2.1 u.2.2)) (va_A [(o, .inr (0, [.null, .null, .null, .int (nI 0), .null, .null, .null]))] sz)) 6 207 (va_A [(o, .inr (0, [.null, .null, .null, .int (nI 0), .null, .null, .null]))] sz) := by
  refine Met.ofW (cc := cX0_init) (maxL := 1) (ret := none) (by decide) rfl ?_
  intro p e s m args below meth c s₁ B hml hv
  obtain ⟨rfl, hsz, hP, hK, hD0⟩ := hv
  have hx := B.exec
  have hb := B.bytes
  have hr := B.returns
  have hts := atoms_spec (ws := ws_ yX0_init cX0_init 1 none) B.pre
  have hts : ∀ w ∈ lw_all, w.before _ s = true := fun w h => hts w (List.mem_cons_of_mem _ h)
  have hown : s.vm.findClass RX0 = some m.cls := findClass_of_methodNamed B.named
  have hlocks : meth.locks = false := B.notSynchronized
  have hin : meth.name = "<init>" := (name_of_methodNamed B.named B.method).1
  subst hsz
  have hD := hD0.self (sz := s.heap.size)
  generalize hAe : va_A [(o, .inr (0, [.null, .null, .null, .int (nI 0), .null, .null, .null]))] s.heap.size = A at hD ⊢
  have hA : ∀ q : Nat, s.heap.size ≤ q → A q := fun q h => by rw [← hAe]; exact Or.inr h
  have hS : va_S A s.heap s.heap [] := va_S.rf
  have hP : va_P D vwCl [(o, .inr (0, [.null, .null, .null, .int (nI 0), .null, .null, .null]))] s.heap := hP
  have hl := lv_entry ([.ref o]) (n := 1) (Nat.le_of_ble_eq_true rfl)
  rw [lg_entry_eq]
  generalize (lg_sl ([.ref o]) ++ List.replicate (1 - (lg_sl ([.ref o])).length) Slot.unset).toArray = ls at hl ⊢
  have hl : lv_has ls 1 [(0, .ref o)] := hl
  refine lv_aload_n hx hb dX0_init_0 rfl (lv_at hl 0 rfl) ?_
  refine W.objInit hx hb hown (hts _ q25) (hts _ q26) (hts _ q27) rfl (by rw [hml]; exact hl.1) rfl dX0_init_1 (Nat.le_of_ble_eq_true rfl) (Nat.le_of_ble_eq_true rfl) ?_
  refine W.eq (g2 := F0 m 4 ls []) rfl ?_
  refine lv_aload_n hx hb dX0_init_4 rfl (lv_at hl 0 rfl) ?_
  refine lv_bipush (v := nI 80) hx hb dX0_init_5 (by decide) ?_
  refine va_newa (atype := .boolean) (ty := .boolean) (N' := 80) (a0 := (80, .inl (nF (fun _ => 0)))) hx hb (hts _ q78) rfl hK hP hD hS hA (ha_nF 80) (by decide) (by decide) (by decide) (Nat.le_of_ble_eq_true rfl) (Nat.le_of_ble_eq_true rfl) dX0_init_7 (fun a1 c1 H hK hP hD hS => ?_)
  refine W.cs (cells' := 1) (slots' := 80) rfl rfl ?_
  have hP : va_P D vwCl [(o, .inr (0, [.null, .null, .null, .int (nI 0), .null, .null, .null])), (a1, .inl (c1, 80, .inl (nF (fun _ => 0))))] H := hP
  have hD : va_D A [(o, .inr (0, [.null, .null, .null, .int (nI 0), .null, .null, .null])), (a1, .inl (c1, 80, .inl (nF (fun _ => 0))))] := hD
  have hK : va_K D vwCl [(c1, .boolean)] s := hK
  refine va_putF (D := D) (ci := 0) (v := .ref a1) (ty := .array .boolean) (C := RX0) (T := TX0) (N := 7) hx hb hts in_X0 tyX0 tyX0_ok nmX0 hown hK hP hD hS 0 rfl rfl 0 (by decide) (hts _ q56) (fun _ h9 => h9) rfl hin rfl (by decide +kernel) rfl rfl (Nat.le_of_ble_eq_true rfl) dX0_init_9 (fun H locs hP hD hS => ?_)
  have hP : va_P D vwCl [(o, .inr (0, [.ref a1, .null, .null, .int (nI 0), .null, .null, .null])), (a1, .inl (c1, 80, .inl (nF (fun _ => 0))))] H := hP
  have hD : va_D A [(o, .inr (0, [.ref a1, .null, .null, .int (nI 0), .null, .null, .null])), (a1, .inl (c1, 80, .inl (nF (fun _ => 0))))] := hD
  refine lv_aload_n hx hb dX0_init_12 rfl (lv_at hl 0 rfl) ?_
  refine lv_bipush (v := nI 80) hx hb dX0_init_13 (by decide) ?_
  refine va_newa (atype := .byte) (ty := .byte) (N' := 80) (a0 := (80, .inl (nF (fun _ => 0)))) hx hb (hts _ q79) rfl hK hP hD hS hA (ha_nF 80) (by decide) (by decide) (by decide) (Nat.le_of_ble_eq_true rfl) (Nat.le_of_ble_eq_true rfl) dX0_init_15 (fun a2 c2 H hK hP hD hS => ?_)
  refine W.cs (cells' := 2) (slots' := 160) rfl rfl ?_
  have hP : va_P D vwCl [(o, .inr (0, [.ref a1, .null, .null, .int (nI 0), .null, .null, .null])), (a1, .inl (c1, 80, .inl (nF (fun _ => 0)))), (a2, .inl (c2, 80, .inl (nF (fun _ => 0))))] H := hP
  have hD : va_D A [(o, .inr (0, [.ref a1, .null, .null, .int (nI 0), .null, .null, .null])), (a1, .inl (c1, 80, .inl (nF (fun _ => 0)))), (a2, .inl (c2, 80, .inl (nF (fun _ => 0))))] := hD
  have hK : va_K D vwCl [(c1, .boolean), (c2, .byte)] s := hK
  refine va_putF (D := D) (ci := 0) (v := .ref a2) (ty := .array .byte) (C := RX0) (T := TX0) (N := 7) hx hb hts in_X0 tyX0 tyX0_ok nmX0 hown hK hP hD hS 0 rfl rfl 1 (by decide) (hts _ q57) (fun _ h9 => h9) rfl hin rfl (by decide +kernel) rfl rfl (Nat.le_of_ble_eq_true rfl) dX0_init_17 (fun H locs hP hD hS => ?_)
  have hP : va_P D vwCl [(o, .inr (0, [.ref a1, .ref a2, .null, .int (nI 0), .null, .null, .null])), (a1, .inl (c1, 80, .inl (nF (fun _ => 0)))), (a2, .inl (c2, 80, .inl (nF (fun _ => 0))))] H := hP
  have hD : va_D A [(o, .inr (0, [.ref a1, .ref a2, .null, .int (nI 0), .null, .null, .null])), (a1, .inl (c1, 80, .inl (nF (fun _ => 0)))), (a2, .inl (c2, 80, .inl (nF (fun _ => 0))))] := hD
  refine lv_aload_n hx hb dX0_init_20 rfl (lv_at hl 0 rfl) ?_
  refine lv_bipush (v := nI 41) hx hb dX0_init_21 (by decide) ?_
  refine va_newa (atype := .int) (ty := .int) (N' := 41) (a0 := (41, .inl (nF (fun _ => 0)))) hx hb (hts _ q80) rfl hK hP hD hS hA (ha_nF 41) (by decide) (by decide) (by decide) (Nat.le_of_ble_eq_true rfl) (Nat.le_of_ble_eq_true rfl) dX0_init_23 (fun a3 c3 H hK hP hD hS => ?_)
  refine W.cs (cells' := 3) (slots' := 201) rfl rfl ?_
  have hP : va_P D vwCl [(o, .inr (0, [.ref a1, .ref a2, .null, .int (nI 0), .null, .null, .null])), (a1, .inl (c1, 80, .inl (nF (fun _ => 0)))), (a2, .inl (c2, 80, .inl (nF (fun _ => 0)))), (a3, .inl (c3, 41, .inl (nF (fun _ => 0))))] H := hP
  have hD : va_D A [(o, .inr (0, [.ref a1, .ref a2, .null, .int (nI 0), .null, .null, .null])), (a1, .inl (c1, 80, .inl (nF (fun _ => 0)))), (a2, .inl (c2, 80, .inl (nF (fun _ => 0)))), (a3, .inl (c3, 41, .inl (nF (fun _ => 0))))] := hD
  have hK : va_K D vwCl [(c1, .boolean), (c2, .byte), (c3, .int)] s := hK
  refine va_putF (D := D) (ci := 0) (v := .ref a3) (ty := .array .int) (C := RX0) (T := TX0) (N := 7) hx hb hts in_X0 tyX0 tyX0_ok nmX0 hown hK hP hD hS 0 rfl rfl 2 (by decide) (hts _ q58) (fun _ h9 => h9) rfl hin rfl (by decide +kernel) rfl rfl (Nat.le_of_ble_eq_true rfl) dX0_init_25 (fun H locs hP hD hS => ?_)
  have hP : va_P D vwCl [(o, .inr (0, [.ref a1, .ref a2, .ref a3, .int (nI 0), .null, .null, .null])), (a1, .inl (c1, 80, .inl (nF (fun _ => 0)))), (a2, .inl (c2, 80, .inl (nF (fun _ => 0)))), (a3, .inl (c3, 41, .inl (nF (fun _ => 0))))] H := hP
  have hD : va_D A [(o, .inr (0, [.ref a1, .ref a2, .ref a3, .int (nI 0), .null, .null, .null])), (a1, .inl (c1, 80, .inl (nF (fun _ => 0)))), (a2, .inl (c2, 80, .inl (nF (fun _ => 0)))), (a3, .inl (c3, 41, .inl (nF (fun _ => 0))))] := hD
  refine lv_aload_n hx hb dX0_init_28 rfl (lv_at hl 0 rfl) ?_
  refine lv_iconst (v := nI 2) hx hb dX0_init_29 (by decide) ?_
  refine va_newa (atype := .byte) (ty := .byte) (N' := 2) (a0 := (2, .inl (tw 0 0))) hx hb (hts _ q79) rfl hK hP hD hS hA ha_tw (by decide) (by decide) (by decide) (Nat.le_of_ble_eq_true rfl) (Nat.le_of_ble_eq_true rfl) dX0_init_30 (fun a4 c4 H hK hP hD hS => ?_)
  refine W.cs (cells' := 4) (slots' := 203) rfl rfl ?_
  have hP : va_P D vwCl [(o, .inr (0, [.ref a1, .ref a2, .ref a3, .int (nI 0), .null, .null, .null])), (a1, .inl (c1, 80, .inl (nF (fun _ => 0)))), (a2, .inl (c2, 80, .inl (nF (fun _ => 0)))), (a3, .inl (c3, 41, .inl (nF (fun _ => 0)))), (a4, .inl (c4, 2, .inl (tw 0 0)))] H := hP
  have hD : va_D A [(o, .inr (0, [.ref a1, .ref a2, .ref a3, .int (nI 0), .null, .null, .null])), (a1, .inl (c1, 80, .inl (nF (fun _ => 0)))), (a2, .inl (c2, 80, .inl (nF (fun _ => 0)))), (a3, .inl (c3, 41, .inl (nF (fun _ => 0)))), (a4, .inl (c4, 2, .inl (tw 0 0)))] := hD
  have hK : va_K D vwCl [(c1, .boolean), (c2, .byte), (c3, .int), (c4, .byte)] s := hK
  refine va_putF (D := D) (ci := 0) (v := .ref a4) (ty := .array .byte) (C := RX0) (T := TX0) (N := 7) hx hb hts in_X0 tyX0 tyX0_ok nmX0 hown hK hP hD hS 0 rfl rfl 4 (by decide) (hts _ q60) (fun _ h9 => h9) rfl hin rfl (by decide +kernel) rfl rfl (Nat.le_of_ble_eq_true rfl) dX0_init_32 (fun H locs hP hD hS => ?_)
  have hP : va_P D vwCl [(o, .inr (0, [.ref a1, .ref a2, .ref a3, .int (nI 0), .ref a4, .null, .null])), (a1, .inl (c1, 80, .inl (nF (fun _ => 0)))), (a2, .inl (c2, 80, .inl (nF (fun _ => 0)))), (a3, .inl (c3, 41, .inl (nF (fun _ => 0)))), (a4, .inl (c4, 2, .inl (tw 0 0)))] H := hP
  have hD : va_D A [(o, .inr (0, [.ref a1, .ref a2, .ref a3, .int (nI 0), .ref a4, .null, .null])), (a1, .inl (c1, 80, .inl (nF (fun _ => 0)))), (a2, .inl (c2, 80, .inl (nF (fun _ => 0)))), (a3, .inl (c3, 41, .inl (nF (fun _ => 0)))), (a4, .inl (c4, 2, .inl (tw 0 0)))] := hD
  refine lv_aload_n hx hb dX0_init_35 rfl (lv_at hl 0 rfl) ?_
  refine lv_iconst (v := nI 2) hx hb dX0_init_36 (by decide) ?_
  refine va_newa (atype := .byte) (ty := .byte) (N' := 2) (a0 := (2, .inl (tw 0 0))) hx hb (hts _ q79) rfl hK hP hD hS hA ha_tw (by decide) (by decide) (by decide) (Nat.le_of_ble_eq_true rfl) (Nat.le_of_ble_eq_true rfl) dX0_init_37 (fun a5 c5 H hK hP hD hS => ?_)
  refine W.cs (cells' := 5) (slots' := 205) rfl rfl ?_
  have hP : va_P D vwCl [(o, .inr (0, [.ref a1, .ref a2, .ref a3, .int (nI 0), .ref a4, .null, .null])), (a1, .inl (c1, 80, .inl (nF (fun _ => 0)))), (a2, .inl (c2, 80, .inl (nF (fun _ => 0)))), (a3, .inl (c3, 41, .inl (nF (fun _ => 0)))), (a4, .inl (c4, 2, .inl (tw 0 0))), (a5, .inl (c5, 2, .inl (tw 0 0)))] H := hP
  have hD : va_D A [(o, .inr (0, [.ref a1, .ref a2, .ref a3, .int (nI 0), .ref a4, .null, .null])), (a1, .inl (c1, 80, .inl (nF (fun _ => 0)))), (a2, .inl (c2, 80, .inl (nF (fun _ => 0)))), (a3, .inl (c3, 41, .inl (nF (fun _ => 0)))), (a4, .inl (c4, 2, .inl (tw 0 0))), (a5, .inl (c5, 2, .inl (tw 0 0)))] := hD
  have hK : va_K D vwCl [(c1, .boolean), (c2, .byte), (c3, .int), (c4, .byte), (c5, .byte)] s := hK
  refine va_putF (D := D) (ci := 0) (v := .ref a5) (ty := .array .byte) (C := RX0) (T := TX0) (N := 7) hx hb hts in_X0 tyX0 tyX0_ok nmX0 hown hK hP hD hS 0 rfl rfl 5 (by decide) (hts _ q61) (fun _ h9 => h9) rfl hin rfl (by decide +kernel) rfl rfl (Nat.le_of_ble_eq_true rfl) dX0_init_39 (fun H locs hP hD hS => ?_)
  have hP : va_P D vwCl [(o, .inr (0, [.ref a1, .ref a2, .ref a3, .int (nI 0), .ref a4, .ref a5, .null])), (a1, .inl (c1, 80, .inl (nF (fun _ => 0)))), (a2, .inl (c2, 80, .inl (nF (fun _ => 0)))), (a3, .inl (c3, 41, .inl (nF (fun _ => 0)))), (a4, .inl (c4, 2, .inl (tw 0 0))), (a5, .inl (c5, 2, .inl (tw 0 0)))] H := hP
  have hD : va_D A [(o, .inr (0, [.ref a1, .ref a2, .ref a3, .int (nI 0), .ref a4, .ref a5, .null])), (a1, .inl (c1, 80, .inl (nF (fun _ => 0)))), (a2, .inl (c2, 80, .inl (nF (fun _ => 0)))), (a3, .inl (c3, 41, .inl (nF (fun _ => 0)))), (a4, .inl (c4, 2, .inl (tw 0 0))), (a5, .inl (c5, 2, .inl (tw 0 0)))] := hD
  refine lv_aload_n hx hb dX0_init_42 rfl (lv_at hl 0 rfl) ?_
  refine lv_iconst (v := nI 2) hx hb dX0_init_43 (by decide) ?_
  refine va_newa (atype := .byte) (ty := .byte) (N' := 2) (a0 := (2, .inl (tw 0 0))) hx hb (hts _ q79) rfl hK hP hD hS hA ha_tw (by decide) (by decide) (by decide) (Nat.le_of_ble_eq_true rfl) (Nat.le_of_ble_eq_true rfl) dX0_init_44 (fun a6 c6 H hK hP hD hS => ?_)
  refine W.cs (cells' := 6) (slots' := 207) rfl rfl ?_
  have hP : va_P D vwCl [(o, .inr (0, [.ref a1, .ref a2, .ref a3, .int (nI 0), .ref a4, .ref a5, .null])), (a1, .inl (c1, 80, .inl (nF (fun _ => 0)))), (a2, .inl (c2, 80, .inl (nF (fun _ => 0)))), (a3, .inl (c3, 41, .inl (nF (fun _ => 0)))), (a4, .inl (c4, 2, .inl (tw 0 0))), (a5, .inl (c5, 2, .inl (tw 0 0))), (a6, .inl (c6, 2, .inl (tw 0 0)))] H := hP
  have hD : va_D A [(o, .inr (0, [.ref a1, .ref a2, .ref a3, .int (nI 0), .ref a4, .ref a5, .null])), (a1, .inl (c1, 80, .inl (nF (fun _ => 0)))), (a2, .inl (c2, 80, .inl (nF (fun _ => 0)))), (a3, .inl (c3, 41, .inl (nF (fun _ => 0)))), (a4, .inl (c4, 2, .inl (tw 0 0))), (a5, .inl (c5, 2, .inl (tw 0 0))), (a6, .inl (c6, 2, .inl (tw 0 0)))] := hD
  have hK : va_K D vwCl [(c1, .boolean), (c2, .byte), (c3, .int), (c4, .byte), (c5, .byte), (c6, .byte)] s := hK
  refine va_putF (D := D) (ci := 0) (v := .ref a6) (ty := .array .byte) (C := RX0) (T := TX0) (N := 7) hx hb hts in_X0 tyX0 tyX0_ok nmX0 hown hK hP hD hS 0 rfl rfl 6 (by decide) (hts _ q62) (fun _ h9 => h9) rfl hin rfl (by decide +kernel) rfl rfl (Nat.le_of_ble_eq_true rfl) dX0_init_46 (fun H locs hP hD hS => ?_)
  have hP : va_P D vwCl [(o, .inr (0, [.ref a1, .ref a2, .ref a3, .int (nI 0), .ref a4, .ref a5, .ref a6])), (a1, .inl (c1, 80, .inl (nF (fun _ => 0)))), (a2, .inl (c2, 80, .inl (nF (fun _ => 0)))), (a3, .inl (c3, 41, .inl (nF (fun _ => 0)))), (a4, .inl (c4, 2, .inl (tw 0 0))), (a5, .inl (c5, 2, .inl (tw 0 0))), (a6, .inl (c6, 2, .inl (tw 0 0)))] H := hP
  have hD : va_D A [(o, .inr (0, [.ref a1, .ref a2, .ref a3, .int (nI 0), .ref a4, .ref a5, .ref a6])), (a1, .inl (c1, 80, .inl (nF (fun _ => 0)))), (a2, .inl (c2, 80, .inl (nF (fun _ => 0)))), (a3, .inl (c3, 41, .inl (nF (fun _ => 0)))), (a4, .inl (c4, 2, .inl (tw 0 0))), (a5, .inl (c5, 2, .inl (tw 0 0))), (a6, .inl (c6, 2, .inl (tw 0 0)))] := hD
  obtain ⟨ad, had0, had1, had2, had3, had4, had5, had6⟩ : ∃ ad : Nat → Nat, ad 0 = o ∧ ad 1 = a1 ∧ ad 2 = a2 ∧ ad 3 = a3 ∧ ad 4 = a4 ∧ ad 5 = a5 ∧ ad 6 = a6 := ⟨fun k => match k with | 0 => o | 1 => a1 | 2 => a2 | 3 => a3 | 4 => a4 | 5 => a5 | _ => a6, rfl, rfl, rfl, rfl, rfl, rfl, rfl⟩
  obtain ⟨ca, hca1, hca2, hca3, hca4, hca5, hca6⟩ : ∃ ca : Nat → ClassId, ca 1 = c1 ∧ ca 2 = c2 ∧ ca 3 = c3 ∧ ca 4 = c4 ∧ ca 5 = c5 ∧ ca 6 = c6 := ⟨fun k => match k with | 1 => c1 | 2 => c2 | 3 => c3 | 4 => c4 | 5 => c5 | _ => c6, rfl, rfl, rfl, rfl, rfl, rfl⟩
  subst had0 had1 had2 had3 had4 had5 had6 hca1 hca2 hca3 hca4 hca5 hca6
  have hK : va_K D vwCl (gt ca) s := hK
  have hG : xS D (gw ad ca) A s (fun _ => 0, fun _ => 0, fun _ => 0, 0, 0, 0, 0, 0, 0, 0) H locs := ⟨hP, hD, hS⟩
  refine lv_aload_n hx hb dX0_init_49 rfl (lv_at hl 0 rfl) ?_
  refine va_get (D := D) (ci := 0) (v := .ref (ad 3)) (C := RX0) (T := TX0) (N := 7) hx hb hts in_X0 hown hK hG.1 0 rfl rfl 2 (by decide) (hts _ q58) (fun _ h9 => h9) rfl dX0_init_50 ?_
  refine lv_iconst (v := nI 0) hx hb dX0_init_53 (by decide) ?_
  refine lv_sipush (v := nI 5572) hx hb dX0_init_54 (by decide) ?_
  refine va_iast (f := nF (fun _ => 0)) hx hb hK hG.1 hG.2.1 hG.2.2 3 2 rfl rfl (vp_in_nI (by decide) (by decide)) dX0_init_57 (fun H locs hP hD hS => ?_)
  rw [nF_up _ _ (by decide)] at hP hD
  have hG : xS D (gw ad ca) A s (fun _ => 0, fun _ => 0, up (fun _ => 0) 0 5572, 0, 0, 0, 0, 0, 0, 0) H locs := ⟨hP, hD, hS⟩
  refine lv_aload_n hx hb dX0_init_58 rfl (lv_at hl 0 rfl) ?_
  refine lv_iconst (v := nI 0) hx hb dX0_init_59 (by decide) ?_
  refine lv_bipush (v := nI 40) hx hb dX0_init_60 (by decide) ?_
  refine xc_viC (n := 2) (rest := []) (ci := 0) (q0 := 0) ⟨Nat.le_refl _, Nat.le_refl _⟩ ⟨hx, hb, hml, hown, hts, hK, hA⟩ hG (mX0_replay l D ad ca (fun _ => 0) (fun _ => 0) (up (fun _ => 0) 0 5572) 0 0 0 0 0 0 0 (fun _ => 0) 0 40 (by decide) (by decide) (by decide) (fun _ _ => Nat.le_of_ble_eq_true rfl) (fun q _ k _ => (U_zero q k).symm) (fun n _ => by unfold up; split <;> simp) (fun n hn => by rw [show n = 0 by omega, up_at]; rfl) (fun n h1 h2 => by omega)) (lw_V q28 q30 qs0 q18 q31) (by decide +kernel) rfl rfl ⟨Nat.le_of_ble_eq_true rfl, Nat.le_of_ble_eq_true rfl⟩ rfl rfl rfl hl.1 rfl (Nat.le_of_ble_eq_true rfl) dX0_init_62 (fun r u H locs hp hG => ?_)
  obtain ⟨⟨sv', z, rfl, hsv'⟩, -⟩ := hp
  refine lv_pop hx hb dX0_init_65 rfl ?_
  exact W.vret hx hb hr (fun t ht hW => ⟨⟨(ad, ca, (fun _ => 0, fun _ => 0, sv', 0, z)), rfl, ⟨rfl, _, _, _, _, rfl, by decide, fun _ _ => Nat.le_of_ble_eq_true rfl, fun _ _ => ⟨Nat.le_of_ble_eq_true rfl, Iff.rfl⟩, fun q _ k _ => (U_zero q k).symm, hsv'⟩, by rw [ht]; exact hG.1, va_K.moved hW.alike hK, hG.2.1⟩, hG.2.2.F ht⟩) hG.2.2.2.2 dX0_init_66
set_option maxHeartbeats 4000000 in
set_option maxRecDepth 100000 in
theorem mX1_init (l : Launch) (D : va_G) (o sz : Nat) : Met l yX1_init (ws_ yX1_init cX1_init 1 none) ({ frames := 1, cells := 5, slots := 127, locals := 12 }) (va_Pc [.ref o] (fun U => U.heap.size = sz ∧ va_P D vwCl [(o, .inr (1, [.null, .int (nI 0), .null, .null, .null, .null]))] U.heap ∧ va_K D vwCl [] U ∧ va_D (fun _ => True) [(o, .inr (1, [.null, .int (nI 0), .null, .null, .null, .null]))])) (va_Qv (fun u : (Nat → Nat) × (Nat → ClassId) × S1 => u.1 0 = o ∧ ∃ (bf : Nat → Nat) (z : Fi), u.2.2 = (fun _ => 0, bf, 0, z)) (fun u t => va_P D vwCl (mw u.1 u.2.1 u.2.2) t.heap ∧ va_K D vwCl (mt u.2.1) t ∧ va_D (va_A [(o, .inr (1, [.null, .int (nI 0), .null, .null, .null, .null]))] sz) (mw u.1 u.2.1 u.2.2)) (va_A [(o, .inr (1, [.null, .int (nI 0), .null, .null, .null, .null]))] sz)) 5 127 (va_A [(o, .inr (1, [.null, .int (nI 0), .null, .null, .null, .null]))] sz) := by
  refine Met.ofW (cc := cX1_init) (maxL := 1) (ret := none) (by decide) rfl ?_
  intro p e s m args below meth c s₁ B hml hv
  obtain ⟨rfl, hsz, hP, hK, hD0⟩ := hv
  have hx := B.exec
  have hb := B.bytes
  have hr := B.returns
  have hts := atoms_spec (ws := ws_ yX1_init cX1_init 1 none) B.pre
  have hts : ∀ w ∈ lw_all, w.before _ s = true := fun w h => hts w (List.mem_cons_of_mem _ h)
  have hown : s.vm.findClass RX1 = some m.cls := findClass_of_methodNamed B.named
  have hlocks : meth.locks = false := B.notSynchronized
  have hin : meth.name = "<init>" := (name_of_methodNamed B.named B.method).1
  subst hsz
  have hD := hD0.self (sz := s.heap.size)
  generalize hAe : va_A [(o, .inr (1, [.null, .int (nI 0), .null, .null, .null, .null]))] s.heap.size = A at hD ⊢
  have hA : ∀ q : Nat, s.heap.size ≤ q → A q := fun q h => by rw [← hAe]; exact Or.inr h
  have hS : va_S A s.heap s.heap [] := va_S.rf
  have hP : va_P D vwCl [(o, .inr (1, [.null, .int (nI 0), .null, .null, .null, .null]))] s.heap := hP
  have hl := lv_entry ([.ref o]) (n := 1) (Nat.le_of_ble_eq_true rfl)
  rw [lg_entry_eq]
  generalize (lg_sl ([.ref o]) ++ List.replicate (1 - (lg_sl ([.ref o])).length) Slot.unset).toArray = ls at hl ⊢
  have hl : lv_has ls 1 [(0, .ref o)] := hl
  refine lv_aload_n hx hb dX1_init_0 rfl (lv_at hl 0 rfl) ?_
  refine W.objInit hx hb hown (hts _ q157) (hts _ q26) (hts _ q27) rfl (by rw [hml]; exact hl.1) rfl dX1_init_1 (Nat.le_of_ble_eq_true rfl) (Nat.le_of_ble_eq_true rfl) ?_
  refine W.eq (g2 := F0 m 4 ls []) rfl ?_
  refine lv_aload_n hx hb dX1_init_4 rfl (lv_at hl 0 rfl) ?_
  refine lv_bipush (v := nI 80) hx hb dX1_init_5 (by decide) ?_
  refine va_newa (atype := .int) (ty := .int) (N' := 80) (a0 := (80, .inl (nF (fun _ => 0)))) hx hb (hts _ q80) rfl hK hP hD hS hA (ha_nF 80) (by decide) (by decide) (by decide) (Nat.le_of_ble_eq_true rfl) (Nat.le_of_ble_eq_true rfl) dX1_init_7 (fun a1 c1 H hK hP hD hS => ?_)
  refine W.cs (cells' := 1) (slots' := 80) rfl rfl ?_
  have hP : va_P D vwCl [(o, .inr (1, [.null, .int (nI 0), .null, .null, .null, .null])), (a1, .inl (c1, 80, .inl (nF (fun _ => 0))))] H := hP
  have hD : va_D A [(o, .inr (1, [.null, .int (nI 0), .null, .null, .null, .null])), (a1, .inl (c1, 80, .inl (nF (fun _ => 0))))] := hD
  have hK : va_K D vwCl [(c1, .int)] s := hK
  refine va_put (D := D) (ci := 1) (v := .ref a1) (ty := .array .int) (C := RX1) (T := TX1) (N := 6) hx hb hts in_X1 tyX1 tyX1_ok nmX1 hown hK hP hD hS 0 rfl rfl 0 (by decide) (hts _ q158) (fun _ h9 => h9) rfl (by decide +kernel) rfl rfl (Nat.le_of_ble_eq_true rfl) dX1_init_9 (fun H locs hP hD hS => ?_)
  have hP : va_P D vwCl [(o, .inr (1, [.ref a1, .int (nI 0), .null, .null, .null, .null])), (a1, .inl (c1, 80, .inl (nF (fun _ => 0))))] H := hP
  have hD : va_D A [(o, .inr (1, [.ref a1, .int (nI 0), .null, .null, .null, .null])), (a1, .inl (c1, 80, .inl (nF (fun _ => 0))))] := hD
  refine lv_aload_n hx hb dX1_init_12 rfl (lv_at hl 0 rfl) ?_
  refine lv_iconst (v := nI 2) hx hb dX1_init_13 (by decide) ?_
  refine va_newa (atype := .int) (ty := .int) (N' := 2) (a0 := (2, .inl (tw 0 0))) hx hb (hts _ q80) rfl hK hP hD hS hA ha_tw (by decide) (by decide) (by decide) (Nat.le_of_ble_eq_true rfl) (Nat.le_of_ble_eq_true rfl) dX1_init_14 (fun a2 c2 H hK hP hD hS => ?_)
  refine W.cs (cells' := 2) (slots' := 82) rfl rfl ?_
  have hP : va_P D vwCl [(o, .inr (1, [.ref a1, .int (nI 0), .null, .null, .null, .null])), (a1, .inl (c1, 80, .inl (nF (fun _ => 0)))), (a2, .inl (c2, 2, .inl (tw 0 0)))] H := hP
  have hD : va_D A [(o, .inr (1, [.ref a1, .int (nI 0), .null, .null, .null, .null])), (a1, .inl (c1, 80, .inl (nF (fun _ => 0)))), (a2, .inl (c2, 2, .inl (tw 0 0)))] := hD
  have hK : va_K D vwCl [(c1, .int), (c2, .int)] s := hK
  refine va_put (D := D) (ci := 1) (v := .ref a2) (ty := .array .int) (C := RX1) (T := TX1) (N := 6) hx hb hts in_X1 tyX1 tyX1_ok nmX1 hown hK hP hD hS 0 rfl rfl 2 (by decide) (hts _ q160) (fun _ h9 => h9) rfl (by decide +kernel) rfl rfl (Nat.le_of_ble_eq_true rfl) dX1_init_16 (fun H locs hP hD hS => ?_)
  have hP : va_P D vwCl [(o, .inr (1, [.ref a1, .int (nI 0), .ref a2, .null, .null, .null])), (a1, .inl (c1, 80, .inl (nF (fun _ => 0)))), (a2, .inl (c2, 2, .inl (tw 0 0)))] H := hP
  have hD : va_D A [(o, .inr (1, [.ref a1, .int (nI 0), .ref a2, .null, .null, .null])), (a1, .inl (c1, 80, .inl (nF (fun _ => 0)))), (a2, .inl (c2, 2, .inl (tw 0 0)))] := hD
  refine lv_aload_n hx hb dX1_init_19 rfl (lv_at hl 0 rfl) ?_
  refine lv_iconst (v := nI 2) hx hb dX1_init_20 (by decide) ?_
  refine va_newa (atype := .int) (ty := .int) (N' := 2) (a0 := (2, .inl (tw 0 0))) hx hb (hts _ q80) rfl hK hP hD hS hA ha_tw (by decide) (by decide) (by decide) (Nat.le_of_ble_eq_true rfl) (Nat.le_of_ble_eq_true rfl) dX1_init_21 (fun a3 c3 H hK hP hD hS => ?_)
  refine W.cs (cells' := 3) (slots' := 84) rfl rfl ?_
  have hP : va_P D vwCl [(o, .inr (1, [.ref a1, .int (nI 0), .ref a2, .null, .null, .null])), (a1, .inl (c1, 80, .inl (nF (fun _ => 0)))), (a2, .inl (c2, 2, .inl (tw 0 0))), (a3, .inl (c3, 2, .inl (tw 0 0)))] H := hP
  have hD : va_D A [(o, .inr (1, [.ref a1, .int (nI 0), .ref a2, .null, .null, .null])), (a1, .inl (c1, 80, .inl (nF (fun _ => 0)))), (a2, .inl (c2, 2, .inl (tw 0 0))), (a3, .inl (c3, 2, .inl (tw 0 0)))] := hD
  have hK : va_K D vwCl [(c1, .int), (c2, .int), (c3, .int)] s := hK
  refine va_put (D := D) (ci := 1) (v := .ref a3) (ty := .array .int) (C := RX1) (T := TX1) (N := 6) hx hb hts in_X1 tyX1 tyX1_ok nmX1 hown hK hP hD hS 0 rfl rfl 3 (by decide) (hts _ q161) (fun _ h9 => h9) rfl (by decide +kernel) rfl rfl (Nat.le_of_ble_eq_true rfl) dX1_init_23 (fun H locs hP hD hS => ?_)
  have hP : va_P D vwCl [(o, .inr (1, [.ref a1, .int (nI 0), .ref a2, .ref a3, .null, .null])), (a1, .inl (c1, 80, .inl (nF (fun _ => 0)))), (a2, .inl (c2, 2, .inl (tw 0 0))), (a3, .inl (c3, 2, .inl (tw 0 0)))] H := hP
  have hD : va_D A [(o, .inr (1, [.ref a1, .int (nI 0), .ref a2, .ref a3, .null, .null])), (a1, .inl (c1, 80, .inl (nF (fun _ => 0)))), (a2, .inl (c2, 2, .inl (tw 0 0))), (a3, .inl (c3, 2, .inl (tw 0 0)))] := hD
  refine lv_aload_n hx hb dX1_init_26 rfl (lv_at hl 0 rfl) ?_
  refine lv_iconst (v := nI 2) hx hb dX1_init_27 (by decide) ?_
  refine va_newa (atype := .int) (ty := .int) (N' := 2) (a0 := (2, .inl (tw 0 0))) hx hb (hts _ q80) rfl hK hP hD hS hA ha_tw (by decide) (by decide) (by decide) (Nat.le_of_ble_eq_true rfl) (Nat.le_of_ble_eq_true rfl) dX1_init_28 (fun a4 c4 H hK hP hD hS => ?_)
  refine W.cs (cells' := 4) (slots' := 86) rfl rfl ?_
  have hP : va_P D vwCl [(o, .inr (1, [.ref a1, .int (nI 0), .ref a2, .ref a3, .null, .null])), (a1, .inl (c1, 80, .inl (nF (fun _ => 0)))), (a2, .inl (c2, 2, .inl (tw 0 0))), (a3, .inl (c3, 2, .inl (tw 0 0))), (a4, .inl (c4, 2, .inl (tw 0 0)))] H := hP
  have hD : va_D A [(o, .inr (1, [.ref a1, .int (nI 0), .ref a2, .ref a3, .null, .null])), (a1, .inl (c1, 80, .inl (nF (fun _ => 0)))), (a2, .inl (c2, 2, .inl (tw 0 0))), (a3, .inl (c3, 2, .inl (tw 0 0))), (a4, .inl (c4, 2, .inl (tw 0 0)))] := hD
  have hK : va_K D vwCl [(c1, .int), (c2, .int), (c3, .int), (c4, .int)] s := hK
  refine va_put (D := D) (ci := 1) (v := .ref a4) (ty := .array .int) (C := RX1) (T := TX1) (N := 6) hx hb hts in_X1 tyX1 tyX1_ok nmX1 hown hK hP hD hS 0 rfl rfl 4 (by decide) (hts _ q162) (fun _ h9 => h9) rfl (by decide +kernel) rfl rfl (Nat.le_of_ble_eq_true rfl) dX1_init_30 (fun H locs hP hD hS => ?_)
  have hP : va_P D vwCl [(o, .inr (1, [.ref a1, .int (nI 0), .ref a2, .ref a3, .ref a4, .null])), (a1, .inl (c1, 80, .inl (nF (fun _ => 0)))), (a2, .inl (c2, 2, .inl (tw 0 0))), (a3, .inl (c3, 2, .inl (tw 0 0))), (a4, .inl (c4, 2, .inl (tw 0 0)))] H := hP
  have hD : va_D A [(o, .inr (1, [.ref a1, .int (nI 0), .ref a2, .ref a3, .ref a4, .null])), (a1, .inl (c1, 80, .inl (nF (fun _ => 0)))), (a2, .inl (c2, 2, .inl (tw 0 0))), (a3, .inl (c3, 2, .inl (tw 0 0))), (a4, .inl (c4, 2, .inl (tw 0 0)))] := hD
  refine lv_aload_n hx hb dX1_init_33 rfl (lv_at hl 0 rfl) ?_
  refine lv_bipush (v := nI 41) hx hb dX1_init_34 (by decide) ?_
  refine va_newa (atype := .int) (ty := .int) (N' := 41) (a0 := (41, .inl (nF (fun _ => 0)))) hx hb (hts _ q80) rfl hK hP hD hS hA (ha_nF 41) (by decide) (by decide) (by decide) (Nat.le_of_ble_eq_true rfl) (Nat.le_of_ble_eq_true rfl) dX1_init_36 (fun a5 c5 H hK hP hD hS => ?_)
  refine W.cs (cells' := 5) (slots' := 127) rfl rfl ?_
  have hP : va_P D vwCl [(o, .inr (1, [.ref a1, .int (nI 0), .ref a2, .ref a3, .ref a4, .null])), (a1, .inl (c1, 80, .inl (nF (fun _ => 0)))), (a2, .inl (c2, 2, .inl (tw 0 0))), (a3, .inl (c3, 2, .inl (tw 0 0))), (a4, .inl (c4, 2, .inl (tw 0 0))), (a5, .inl (c5, 41, .inl (nF (fun _ => 0))))] H := hP
  have hD : va_D A [(o, .inr (1, [.ref a1, .int (nI 0), .ref a2, .ref a3, .ref a4, .null])), (a1, .inl (c1, 80, .inl (nF (fun _ => 0)))), (a2, .inl (c2, 2, .inl (tw 0 0))), (a3, .inl (c3, 2, .inl (tw 0 0))), (a4, .inl (c4, 2, .inl (tw 0 0))), (a5, .inl (c5, 41, .inl (nF (fun _ => 0))))] := hD
  have hK : va_K D vwCl [(c1, .int), (c2, .int), (c3, .int), (c4, .int), (c5, .int)] s := hK
  refine va_put (D := D) (ci := 1) (v := .ref a5) (ty := .array .int) (C := RX1) (T := TX1) (N := 6) hx hb hts in_X1 tyX1 tyX1_ok nmX1 hown hK hP hD hS 0 rfl rfl 5 (by decide) (hts _ q163) (fun _ h9 => h9) rfl (by decide +kernel) rfl rfl (Nat.le_of_ble_eq_true rfl) dX1_init_38 (fun H locs hP hD hS => ?_)
  have hP : va_P D vwCl [(o, .inr (1, [.ref a1, .int (nI 0), .ref a2, .ref a3, .ref a4, .ref a5])), (a1, .inl (c1, 80, .inl (nF (fun _ => 0)))), (a2, .inl (c2, 2, .inl (tw 0 0))), (a3, .inl (c3, 2, .inl (tw 0 0))), (a4, .inl (c4, 2, .inl (tw 0 0))), (a5, .inl (c5, 41, .inl (nF (fun _ => 0))))] H := hP
  have hD : va_D A [(o, .inr (1, [.ref a1, .int (nI 0), .ref a2, .ref a3, .ref a4, .ref a5])), (a1, .inl (c1, 80, .inl (nF (fun _ => 0)))), (a2, .inl (c2, 2, .inl (tw 0 0))), (a3, .inl (c3, 2, .inl (tw 0 0))), (a4, .inl (c4, 2, .inl (tw 0 0))), (a5, .inl (c5, 41, .inl (nF (fun _ => 0))))] := hD
  obtain ⟨ad, had0, had1, had2, had3, had4, had5⟩ : ∃ ad : Nat → Nat, ad 0 = o ∧ ad 1 = a1 ∧ ad 2 = a2 ∧ ad 3 = a3 ∧ ad 4 = a4 ∧ ad 5 = a5 := ⟨fun k => match k with | 0 => o | 1 => a1 | 2 => a2 | 3 => a3 | 4 => a4 | _ => a5, rfl, rfl, rfl, rfl, rfl, rfl⟩
  obtain ⟨ca, hca1, hca2, hca3, hca4, hca5⟩ : ∃ ca : Nat → ClassId, ca 1 = c1 ∧ ca 2 = c2 ∧ ca 3 = c3 ∧ ca 4 = c4 ∧ ca 5 = c5 := ⟨fun k => match k with | 1 => c1 | 2 => c2 | 3 => c3 | 4 => c4 | _ => c5, rfl, rfl, rfl, rfl, rfl⟩
  subst had0 had1 had2 had3 had4 had5 hca1 hca2 hca3 hca4 hca5
  have hK : va_K D vwCl (mt ca) s := hK
  have hG : xS D (mw ad ca) A s (fun _ => 0, fun _ => 0, 0, 0, 0, 0, 0, 0, 0) H locs := ⟨hP, hD, hS⟩
  exact W.vret hx hb hr (fun t ht hW => ⟨⟨(ad, ca, (fun _ => 0, fun _ => 0, 0, 0, 0, 0, 0, 0, 0)), rfl, ⟨rfl, _, _, rfl⟩, by rw [ht]; exact hG.1, va_K.moved hW.alike hK, hG.2.1⟩, hG.2.2.F ht⟩) hG.2.2.2.2 dX1_init_41
end
section
/-! THE CLAIM OUT OF ONE WALK OF THE LAW'S BODY. Your part is whole_start (and what it stands on); all else here is the same for every law, but numbers. -/
def R_law : String := "RollbackGameLaw"
def lw_P (b : Addr) (xs : List Int32) (args : Array Value) (s : State) : Prop := args = #[.ref b] ∧ s.IntsAt b xs ∧ xs.length ≤ 256 ∧ (Jvm.Cond.and given_1 narrow_1).before args s = true
def lw_Q (_ : Array Value) (s : State) (o : Outcome) (t : State) : Prop := o = .returned (some (.int 1)) ∧ Framed s o t [] 600000 7290000
def lw_Z (below : List Frame) (a : Array Value) (s : State) : State → Prop := fun t => ∃ o, t.status = .running ∧ Ended t below o ∧ lw_Q a s o t
/-- the law's own end, with 1 on the stack, nothing written that was there before, its room as the claim has it -/
theorem lw_ret {p : Program} {l : Launch} {e : Env} {s : State} {m : MethodId} {below : List Frame} {meth : Method} {c : Code} {b : Nat} (hx : p.tables.exec = Jvm.exec) (hb : c.code = code) (hr : meth.sig.returnType = ret) (hlocks : meth.locks = false) {pc : Nat} {H : Heap} {ls : Array Slot} (hdg : decode code pc = .ok (.ireturn, 1)) : W p l e room_1 s m #[Value.ref b] below meth c H [] 600000 7290000 (lw_Z below #[Value.ref b] s) (F0 m pc ls [.int 1]) := by
  intro T hT X
  obtain ⟨fs, hret, hrun, hended, hW, hframe⟩ := X.leave (v := some (.int 1)) (hlocks := hlocks) (fun h => by rw [hr] at h; cases h)
  have hmeth' : T.vm.method? m = some meth := X.method'
  refine ⟨T.setFrames fs, ?_, .returned (some (.int 1)), hrun, hended, rfl, ⟨_, rfl⟩, hW, hframe⟩
  jvm_step X.here [X.here.top, hx, hb, hdg, hmeth', hr, ret, narrow_b1]
  (try refine ⟨rfl, ?_⟩); (try refine ⟨rfl, ?_⟩)
  first | (intro acts; rw [hret _ acts rfl rfl rfl]) | rw [hret _ _ rfl rfl rfl]
  exact Steps.refl _
/-- what holds at the law's entry: the machine, the code, the tables' words (any of lw_tbl by 'hts w (by decide +kernel)'), the script of L ints xs at the cell b, what the Statement gives of the start (any of its parts by flat_of_before) -/
def lw_At (p : Program) (s : State) (m : MethodId) (meth : Method) (c : Code) (b L : Nat) (xs : Nat → Int32) : Prop :=
  p.tables.exec = Jvm.exec ∧ c.code = code ∧ meth.sig.returnType = ret ∧ c.maxLocals = 4 ∧ s.vm.findClass R_law = some m.cls ∧ (∀ w ∈ lw_tbl, w.before #[Value.ref b] s = true) ∧ va_X b L xs s s.heap ∧ b < s.heap.size ∧ meth.locks = false ∧ (Jvm.Cond.and given_1 narrow_1).before #[Value.ref b] s = true
end
section
/-! THE LAW: both objects side by side; one case a call; the loop -/
def lA (s : State) : Nat → Prop := fun q => s.heap.size ≤ q
def lS (D : va_G) (ad0 : Nat → Nat) (ca0 : Nat → ClassId) (ad1 : Nat → Nat) (ca1 : Nat → ClassId) (s : State) (g0 : S0) (g1 : S1) (H : Heap) (locs : List Loc) : Prop := va_P D vwCl (gw ad0 ca0 g0 ++ mw ad1 ca1 g1) H ∧ va_D (lA s) (gw ad0 ca0 g0 ++ mw ad1 ca1 g1) ∧ va_S (lA s) s.heap H locs
theorem head_gt {i L : Nat} (hi : i ≤ L) (hL : L ≤ 256) : nI L - nI 4 < nI i ↔ L < i + 4 := by
  rw [Int32.lt_iff_toInt_lt, pk_sub_toInt (by omega) (by decide), nI_toInt (by omega)]
  omega
section LC
variable {p : Program} {l : Launch} {e : Env} {R : Room} {s : State} {m : MethodId} {args : Array Value} {below : List Frame} {meth : Method} {c : Code} {H : Heap} {locs : List Loc} {Q : State → Prop} {cells slots : Nat}
variable {cc : ByteArray} {pc nL : Nat} {ls : Array Slot} {rest st : List Value} {D : va_G} {ad0 ad1 : Nat → Nat} {ca0 ca1 : Nat → ClassId} {own : String} {g0 : S0} {g1 : S1}
theorem lc_x0 {y : MethodName} {bytes : ByteArray} {maxL : Nat} {ty : FieldType} {rm : Room} {As : List Value} {idx n : Nat} {post : Int32 → S0 → Prop}
    (hF : CallFix p m c cc nL s args lw_all own) (hK0 : va_K D vwCl (gt ca0) s) (hL : lS D ad0 ca0 ad1 ca1 s g0 g1 H locs) (hM : XMi l y (ws_ y bytes maxL (some ty)) rm D (gw ad0 ca0) (gt ca0) (.ref (ad0 0) :: As) g0 post) (hq : GoodIn lw_all (wsV own idx RX0 y (ws_ y bytes maxL (some ty))))
    (hd : y.cls = RX0 ∧ y.cls ≠ "java/lang/invoke/MethodHandle" ∧ y.cls ≠ "java/lang/invoke/VarHandle" ∧ (parseMethodDescriptor y.desc).map (fun d => d.parameters.length) = some n) (hrc : rm.cells = 0) (hrs : rm.slots = 0) (hR : rm.frames + 1 ≤ R.frames ∧ 8 + (maxL + 11) + rm.locals ≤ R.locals) (hcs : cells ≤ R.cells ∧ slots ≤ R.slots)
    (hn : As.length = n) (hls : ls.size = nL) (hst : st = As.reverse ++ .ref (ad0 0) :: rest) (h8 : (rest.map fun v => v.category).sum ≤ 8) (hdg : decode cc pc = .ok (.invokevirtual idx, 3))
    (kk : ∀ (r : Int32) (u : S0) (H : Heap) (locs : List Loc), post r u → lS D ad0 ca0 ad1 ca1 s u g1 H locs → W p l e R s m args below meth c H locs cells slots Q (F0 m (pc + 3) ls (.int r :: rest))) : W p l e R s m args below meth c H locs cells slots Q (F0 m pc ls st) := by
  have hP0 := hL.1.sub (ws' := gw ad0 ca0 g0) [0, 1, 2, 3, 4, 5, 6] rfl
  have hD0 := hL.2.1.sub (ws' := gw ad0 ca0 g0) [0, 1, 2, 3, 4, 5, 6] (by decide) rfl
  have hFc := va_free (wc := gw ad0 ca0 g0) hL.2.1 hL.2.2 (fun _ h => h) [0, 1, 2, 3, 4, 5, 6] rfl
  refine va_calli (va_runV (As := As) (rest := rest) hF (hM H.size) (cwV n hF.2.2.2.2 hq rfl hrc hrs hd hR) ⟨xPc_blind, va_recv hK0 hP0 (ci := 0) (q0 := 0) rfl rfl, fun U hU hW => ⟨rfl, by rw [hU], by rw [hU]; exact hP0, va_K.moved hW.alike hK0, hD0.weaken (fun _ _ _ _ => trivial)⟩⟩ rfl hn hls hst (lv_room h8) hdg ⟨hcs.1, hcs.2⟩) hL.2.2 (fun q _ h => hFc q h) hFc (fun r u t H1 locs1 ht hvm hp hB hz hk hS1 => ?_)
  obtain ⟨hP1, hK1, hD1⟩ := hB
  rw [ht] at hP1
  obtain ⟨hP, hD⟩ := va_join (wr := mw ad1 ca1 g1) (w1 := gw ad0 ca0 u) hL.1 hL.2.1 [0, 1, 2, 3, 4, 5, 6] [7, 8, 9, 10, 11, 12] rfl rfl (by decide) (by decide) hk hFc hP1 hD1
  exact kk r u H1 locs1 hp ⟨hP.sub (ws' := gw ad0 ca0 u ++ mw ad1 ca1 g1) [6, 7, 8, 9, 10, 11, 12, 0, 1, 2, 3, 4, 5] rfl, hD.sub (ws' := gw ad0 ca0 u ++ mw ad1 ca1 g1) [6, 7, 8, 9, 10, 11, 12, 0, 1, 2, 3, 4, 5] (by decide) rfl, hS1⟩
theorem lc_x1 {y : MethodName} {bytes : ByteArray} {maxL : Nat} {ty : FieldType} {rm : Room} {As : List Value} {idx n : Nat} {post : Int32 → S1 → Prop}
    (hF : CallFix p m c cc nL s args lw_all own) (hK0 : va_K D vwCl (mt ca1) s) (hL : lS D ad0 ca0 ad1 ca1 s g0 g1 H locs) (hM : XMi l y (ws_ y bytes maxL (some ty)) rm D (mw ad1 ca1) (mt ca1) (.ref (ad1 0) :: As) g1 post) (hq : GoodIn lw_all (wsV own idx RX1 y (ws_ y bytes maxL (some ty))))
    (hd : y.cls = RX1 ∧ y.cls ≠ "java/lang/invoke/MethodHandle" ∧ y.cls ≠ "java/lang/invoke/VarHandle" ∧ (parseMethodDescriptor y.desc).map (fun d => d.parameters.length) = some n) (hrc : rm.cells = 0) (hrs : rm.slots = 0) (hR : rm.frames + 1 ≤ R.frames ∧ 8 + (maxL + 11) + rm.locals ≤ R.locals) (hcs : cells ≤ R.cells ∧ slots ≤ R.slots)
    (hn : As.length = n) (hls : ls.size = nL) (hst : st = As.reverse ++ .ref (ad1 0) :: rest) (h8 : (rest.map fun v => v.category).sum ≤ 8) (hdg : decode cc pc = .ok (.invokevirtual idx, 3))
    (kk : ∀ (r : Int32) (u : S1) (H : Heap) (locs : List Loc), post r u → lS D ad0 ca0 ad1 ca1 s g0 u H locs → W p l e R s m args below meth c H locs cells slots Q (F0 m (pc + 3) ls (.int r :: rest))) : W p l e R s m args below meth c H locs cells slots Q (F0 m pc ls st) := by
  have hP0 := hL.1.sub (ws' := mw ad1 ca1 g1) [7, 8, 9, 10, 11, 12] rfl
  have hD0 := hL.2.1.sub (ws' := mw ad1 ca1 g1) [7, 8, 9, 10, 11, 12] (by decide) rfl
  have hFc := va_free (wc := mw ad1 ca1 g1) hL.2.1 hL.2.2 (fun _ h => h) [7, 8, 9, 10, 11, 12] rfl
  refine va_calli (va_runV (As := As) (rest := rest) hF (hM H.size) (cwV n hF.2.2.2.2 hq rfl hrc hrs hd hR) ⟨xPc_blind, va_recv hK0 hP0 (ci := 1) (q0 := 0) rfl rfl, fun U hU hW => ⟨rfl, by rw [hU], by rw [hU]; exact hP0, va_K.moved hW.alike hK0, hD0.weaken (fun _ _ _ _ => trivial)⟩⟩ rfl hn hls hst (lv_room h8) hdg ⟨hcs.1, hcs.2⟩) hL.2.2 (fun q _ h => hFc q h) hFc (fun r u t H1 locs1 ht hvm hp hB hz hk hS1 => ?_)
  obtain ⟨hP1, hK1, hD1⟩ := hB
  rw [ht] at hP1
  obtain ⟨hP, hD⟩ := va_join (wr := gw ad0 ca0 g0) (w1 := mw ad1 ca1 u) hL.1 hL.2.1 [7, 8, 9, 10, 11, 12] [0, 1, 2, 3, 4, 5, 6] rfl rfl (by decide) (by decide) hk hFc hP1 hD1
  exact kk r u H1 locs1 hp ⟨hP.sub (ws' := gw ad0 ca0 g0 ++ mw ad1 ca1 u) [0, 1, 2, 3, 4, 5, 6, 7, 8, 9, 10, 11, 12] rfl, hD.sub (ws' := gw ad0 ca0 g0 ++ mw ad1 ca1 u) [0, 1, 2, 3, 4, 5, 6, 7, 8, 9, 10, 11, 12] (by decide) rfl, hS1⟩
end LC
set_option maxHeartbeats 4000000 in
set_option maxRecDepth 100000 in
theorem law_op0 {p : Program} {l : Launch} {e : Env} {s : State} {m : MethodId} {below : List Frame} {meth : Method} {c : Code} {b L : Nat} {xs : Nat → Int32} {D : va_G} {ad0 ad1 : Nat → Nat} {ca0 ca1 : Nat → ClassId} {Q : State → Prop} (hL : L ≤ 256) (C0 : lw_At p s m meth c b L xs) (hK0 : va_K D vwCl (gt ca0) s) (hK1 : va_K D vwCl (mt ca1) s) (i : Nat) (hi : i + 4 ≤ L) (hk : ∀ (M ar us sv bf : Nat → Nat) (d p0 p1 h0 h1 w0 w1 q0_ q1_ q2_ q3_ q4_ q5_ : Nat), gOK M d ar us sv → ∀ (H : Heap) (locs : List Loc), lS D ad0 ca0 ad1 ca1 s (ar, us, sv, d, p0, p1, h0, h1, w0, w1) (M, bf, d, q0_, q1_, q2_, q3_, q4_, q5_) H locs → ∀ ls : Array Slot, lv_has ls 4 [(3, .int (nI i)), (2, .ref (ad1 0)), (1, .ref (ad0 0)), (0, .ref b)] → W p l e room_1 s m #[Value.ref b] below meth c H locs 13 347 Q (F0 m 379 ls [])) (M ar us sv bf : Nat → Nat) (d p0 p1 h0 h1 w0 w1 q0_ q1_ q2_ q3_ q4_ q5_ : Nat) (hOK : gOK M d ar us sv) (H : Heap) (locs : List Loc) (hS : lS D ad0 ca0 ad1 ca1 s (ar, us, sv, d, p0, p1, h0, h1, w0, w1) (M, bf, d, q0_, q1_, q2_, q3_, q4_, q5_) H locs) (ls : Array Slot) (hl : lv_has ls 4 [(3, .int (nI i)), (2, .ref (ad1 0)), (1, .ref (ad0 0)), (0, .ref b)]) : W p l e room_1 s m #[Value.ref b] below meth c H locs 13 347 Q (F0 m 100 ls []) := by
  obtain ⟨hx, hb, hr, hml, hown, hts, hX, hbl, hlocks, hgv⟩ := C0
  have htsA : ∀ w ∈ lw_all, w.before #[Value.ref b] s = true := fun w h => hts w (lw_all_tbl h)
  have hbA : ¬ lA s b := Nat.not_le.mpr hbl
  refine lv_aload_n hx hb dL_law_100 rfl (lv_at hl 2 rfl) ?_
  refine lv_aload_n hx hb dL_law_101 rfl (lv_at hl 3 rfl) ?_
  refine lv_iload_n hx hb dL_law_102 rfl (lv_at hl 0 rfl) ?_
  refine lv_iconst (v := nI 1) hx hb dL_law_103 (by decide) ?_
  refine n_add hx hb dL_law_104 ?_
  refine va_sld hx hb hX hbl hbA hS.2.2 (vp_in_nI (by omega) (by omega)) dL_law_105 ?_
  refine lv_aload_n hx hb dL_law_106 rfl (lv_at hl 3 rfl) ?_
  refine lv_iload_n hx hb dL_law_107 rfl (lv_at hl 0 rfl) ?_
  refine lv_iconst (v := nI 2) hx hb dL_law_108 (by decide) ?_
  refine n_add hx hb dL_law_109 ?_
  refine va_sld hx hb hX hbl hbA hS.2.2 (vp_in_nI (by omega) (by omega)) dL_law_110 ?_
  refine lv_aload_n hx hb dL_law_111 rfl (lv_at hl 3 rfl) ?_
  refine lv_iload_n hx hb dL_law_112 rfl (lv_at hl 0 rfl) ?_
  refine lv_iconst (v := nI 3) hx hb dL_law_113 (by decide) ?_
  refine n_add hx hb dL_law_114 ?_
  refine va_sld hx hb hX hbl hbA hS.2.2 (vp_in_nI (by omega) (by omega)) dL_law_115 ?_
  refine lc_x0 (n := 3) (rest := []) ⟨hx, hb, hml, hown, htsA⟩ hK0 hS (mX0_arrive l D ad0 ca0 ar us sv d p0 p1 h0 h1 w0 w1 M hOK (xs (nI (i + 1)).toNatClampNeg) (xs (nI (i + 2)).toNatClampNeg) (xs (nI (i + 3)).toNatClampNeg)) (lw_V q81 q82 q83 q18 q84) (by decide +kernel) rfl rfl ⟨Nat.le_of_ble_eq_true rfl, Nat.le_of_ble_eq_true rfl⟩ ⟨Nat.le_of_ble_eq_true rfl, Nat.le_of_ble_eq_true rfl⟩ rfl hl.1 rfl (Nat.le_of_ble_eq_true rfl) dL_law_116 (fun r u H locs hp0 hS => ?_)
  refine lv_aload_n hx hb dL_law_119 rfl (lv_at hl 1 rfl) ?_
  refine lv_aload_n hx hb dL_law_120 rfl (lv_at hl 3 rfl) ?_
  refine lv_iload_n hx hb dL_law_121 rfl (lv_at hl 0 rfl) ?_
  refine lv_iconst (v := nI 1) hx hb dL_law_122 (by decide) ?_
  refine n_add hx hb dL_law_123 ?_
  refine va_sld hx hb hX hbl hbA hS.2.2 (vp_in_nI (by omega) (by omega)) dL_law_124 ?_
  refine lv_aload_n hx hb dL_law_125 rfl (lv_at hl 3 rfl) ?_
  refine lv_iload_n hx hb dL_law_126 rfl (lv_at hl 0 rfl) ?_
  refine lv_iconst (v := nI 2) hx hb dL_law_127 (by decide) ?_
  refine n_add hx hb dL_law_128 ?_
  refine va_sld hx hb hX hbl hbA hS.2.2 (vp_in_nI (by omega) (by omega)) dL_law_129 ?_
  refine lv_aload_n hx hb dL_law_130 rfl (lv_at hl 3 rfl) ?_
  refine lv_iload_n hx hb dL_law_131 rfl (lv_at hl 0 rfl) ?_
  refine lv_iconst (v := nI 3) hx hb dL_law_132 (by decide) ?_
  refine n_add hx hb dL_law_133 ?_
  refine va_sld hx hb hX hbl hbA hS.2.2 (vp_in_nI (by omega) (by omega)) dL_law_134 ?_
  refine lc_x1 (n := 3) (rest := [.int r]) ⟨hx, hb, hml, hown, htsA⟩ hK1 hS (mX1_arrive l D ad1 ca1 M bf d q0_ q1_ q2_ q3_ q4_ q5_ hOK.2.1 hOK.1 (xs (nI (i + 1)).toNatClampNeg) (xs (nI (i + 2)).toNatClampNeg) (xs (nI (i + 3)).toNatClampNeg)) (lw_V q177 q178 q179 q19 q180) (by decide +kernel) rfl rfl ⟨Nat.le_of_ble_eq_true rfl, Nat.le_of_ble_eq_true rfl⟩ ⟨Nat.le_of_ble_eq_true rfl, Nat.le_of_ble_eq_true rfl⟩ rfl hl.1 rfl (Nat.le_of_ble_eq_true rfl) dL_law_135 (fun r1 u1 H locs hp1 hS => ?_)
  obtain ⟨M1, ar1, us1, sv1, ⟨a0, a1, a2, a3, a4, a5⟩, rfl, hOK1, hr0⟩ := hp0
  obtain ⟨M2, bf2, ⟨b0, b1, b2, b3, b4, b5⟩, rfl, -, hr1⟩ := hp1
  obtain ⟨hreq, hMeq⟩ := aArr_un hr0 hr1
  subst hMeq
  refine lv_icmp_eq (tgt := 379) hx hb dL_law_138 (by decide) (fun _ => ?_) (fun hne => absurd (hreq) hne)
  exact hk M1 ar1 us1 sv1 bf2 d a0 a1 a2 a3 a4 a5 b0 b1 b2 b3 b4 b5 hOK1 _ _ hS ls hl
set_option maxHeartbeats 4000000 in
set_option maxRecDepth 100000 in
theorem law_op1 {p : Program} {l : Launch} {e : Env} {s : State} {m : MethodId} {below : List Frame} {meth : Method} {c : Code} {b L : Nat} {xs : Nat → Int32} {D : va_G} {ad0 ad1 : Nat → Nat} {ca0 ca1 : Nat → ClassId} {Q : State → Prop} (hL : L ≤ 256) (C0 : lw_At p s m meth c b L xs) (hK0 : va_K D vwCl (gt ca0) s) (hK1 : va_K D vwCl (mt ca1) s) (i : Nat) (hi : i + 4 ≤ L) (hk : ∀ (M ar us sv bf : Nat → Nat) (d p0 p1 h0 h1 w0 w1 q0_ q1_ q2_ q3_ q4_ q5_ : Nat), gOK M d ar us sv → ∀ (H : Heap) (locs : List Loc), lS D ad0 ca0 ad1 ca1 s (ar, us, sv, d, p0, p1, h0, h1, w0, w1) (M, bf, d, q0_, q1_, q2_, q3_, q4_, q5_) H locs → ∀ ls : Array Slot, lv_has ls 4 [(3, .int (nI i)), (2, .ref (ad1 0)), (1, .ref (ad0 0)), (0, .ref b)] → W p l e room_1 s m #[Value.ref b] below meth c H locs 13 347 Q (F0 m 379 ls [])) (M ar us sv bf : Nat → Nat) (d p0 p1 h0 h1 w0 w1 q0_ q1_ q2_ q3_ q4_ q5_ : Nat) (hOK : gOK M d ar us sv) (H : Heap) (locs : List Loc) (hS : lS D ad0 ca0 ad1 ca1 s (ar, us, sv, d, p0, p1, h0, h1, w0, w1) (M, bf, d, q0_, q1_, q2_, q3_, q4_, q5_) H locs) (ls : Array Slot) (hl : lv_has ls 4 [(3, .int (nI i)), (2, .ref (ad1 0)), (1, .ref (ad0 0)), (0, .ref b)]) : W p l e room_1 s m #[Value.ref b] below meth c H locs 13 347 Q (F0 m 143 ls []) := by
  obtain ⟨hx, hb, hr, hml, hown, hts, hX, hbl, hlocks, hgv⟩ := C0
  have htsA : ∀ w ∈ lw_all, w.before #[Value.ref b] s = true := fun w h => hts w (lw_all_tbl h)
  have hbA : ¬ lA s b := Nat.not_le.mpr hbl
  refine lv_aload_n hx hb dL_law_143 rfl (lv_at hl 2 rfl) ?_
  refine lc_x0 (n := 0) (rest := []) ⟨hx, hb, hml, hown, htsA⟩ hK0 hS (mX0_tick l D ad0 ca0 ar us sv d p0 p1 h0 h1 w0 w1 M hOK ) (lw_V q99 q100 q101 q18 q102) (by decide +kernel) rfl rfl ⟨Nat.le_of_ble_eq_true rfl, Nat.le_of_ble_eq_true rfl⟩ ⟨Nat.le_of_ble_eq_true rfl, Nat.le_of_ble_eq_true rfl⟩ rfl hl.1 rfl (Nat.le_of_ble_eq_true rfl) dL_law_144 (fun r u H locs hp0 hS => ?_)
  refine lv_aload_n hx hb dL_law_147 rfl (lv_at hl 1 rfl) ?_
  refine lc_x1 (n := 0) (rest := [.int r]) ⟨hx, hb, hml, hown, htsA⟩ hK1 hS (mX1_tick l D ad1 ca1 M bf d q0_ q1_ q2_ q3_ q4_ q5_ hOK.1 ) (lw_V q214 q215 q216 q19 q217) (by decide +kernel) rfl rfl ⟨Nat.le_of_ble_eq_true rfl, Nat.le_of_ble_eq_true rfl⟩ ⟨Nat.le_of_ble_eq_true rfl, Nat.le_of_ble_eq_true rfl⟩ rfl hl.1 rfl (Nat.le_of_ble_eq_true rfl) dL_law_148 (fun r1 u1 H locs hp1 hS => ?_)
  rcases hp0 with ⟨hlt, rfl, rfl⟩ | ⟨hge, rfl, rfl⟩
  · rcases hp1 with ⟨hlt1, rfl, rfl⟩ | ⟨hge1, rfl, rfl⟩
    · refine lv_icmp_eq (tgt := 379) hx hb dL_law_151 (by decide) (fun _ => ?_) (fun hne => absurd rfl hne)
      exact hk M ar us sv bf (d + 1) p0 p1 h0 h1 w0 w1 q0_ q1_ q2_ q3_ q4_ q5_ ⟨by omega, hOK.2⟩ _ _ hS ls hl
    · exact absurd hlt hge1
  · rcases hp1 with ⟨hlt1, rfl, rfl⟩ | ⟨hge1, rfl, rfl⟩
    · exact absurd hlt1 hge
    · refine lv_icmp_eq (tgt := 379) hx hb dL_law_151 (by decide) (fun _ => ?_) (fun hne => absurd rfl hne)
      exact hk M ar us sv bf d p0 p1 h0 h1 w0 w1 q0_ q1_ q2_ q3_ q4_ q5_ hOK _ _ hS ls hl
set_option maxHeartbeats 4000000 in
set_option maxRecDepth 100000 in
theorem law_op2 {p : Program} {l : Launch} {e : Env} {s : State} {m : MethodId} {below : List Frame} {meth : Method} {c : Code} {b L : Nat} {xs : Nat → Int32} {D : va_G} {ad0 ad1 : Nat → Nat} {ca0 ca1 : Nat → ClassId} {Q : State → Prop} (hL : L ≤ 256) (C0 : lw_At p s m meth c b L xs) (hK0 : va_K D vwCl (gt ca0) s) (hK1 : va_K D vwCl (mt ca1) s) (i : Nat) (hi : i + 4 ≤ L) (hk : ∀ (M ar us sv bf : Nat → Nat) (d p0 p1 h0 h1 w0 w1 q0_ q1_ q2_ q3_ q4_ q5_ : Nat), gOK M d ar us sv → ∀ (H : Heap) (locs : List Loc), lS D ad0 ca0 ad1 ca1 s (ar, us, sv, d, p0, p1, h0, h1, w0, w1) (M, bf, d, q0_, q1_, q2_, q3_, q4_, q5_) H locs → ∀ ls : Array Slot, lv_has ls 4 [(3, .int (nI i)), (2, .ref (ad1 0)), (1, .ref (ad0 0)), (0, .ref b)] → W p l e room_1 s m #[Value.ref b] below meth c H locs 13 347 Q (F0 m 379 ls [])) (M ar us sv bf : Nat → Nat) (d p0 p1 h0 h1 w0 w1 q0_ q1_ q2_ q3_ q4_ q5_ : Nat) (hOK : gOK M d ar us sv) (H : Heap) (locs : List Loc) (hS : lS D ad0 ca0 ad1 ca1 s (ar, us, sv, d, p0, p1, h0, h1, w0, w1) (M, bf, d, q0_, q1_, q2_, q3_, q4_, q5_) H locs) (ls : Array Slot) (hl : lv_has ls 4 [(3, .int (nI i)), (2, .ref (ad1 0)), (1, .ref (ad0 0)), (0, .ref b)]) : W p l e room_1 s m #[Value.ref b] below meth c H locs 13 347 Q (F0 m 156 ls []) := by
  obtain ⟨hx, hb, hr, hml, hown, hts, hX, hbl, hlocks, hgv⟩ := C0
  have htsA : ∀ w ∈ lw_all, w.before #[Value.ref b] s = true := fun w h => hts w (lw_all_tbl h)
  have hbA : ¬ lA s b := Nat.not_le.mpr hbl
  refine lv_aload_n hx hb dL_law_156 rfl (lv_at hl 2 rfl) ?_
  refine lc_x0 (n := 0) (rest := []) ⟨hx, hb, hml, hown, htsA⟩ hK0 hS (mX0_played l D ad0 ca0 ar us sv d p0 p1 h0 h1 w0 w1  ) (lw_V q103 q104 q105 q18 q106) (by decide +kernel) rfl rfl ⟨Nat.le_of_ble_eq_true rfl, Nat.le_of_ble_eq_true rfl⟩ ⟨Nat.le_of_ble_eq_true rfl, Nat.le_of_ble_eq_true rfl⟩ rfl hl.1 rfl (Nat.le_of_ble_eq_true rfl) dL_law_157 (fun r u H locs hp0 hS => ?_)
  refine lv_aload_n hx hb dL_law_160 rfl (lv_at hl 1 rfl) ?_
  refine lc_x1 (n := 0) (rest := [.int r]) ⟨hx, hb, hml, hown, htsA⟩ hK1 hS (mX1_played l D ad1 ca1 M bf d q0_ q1_ q2_ q3_ q4_ q5_  ) (lw_V q218 q219 q220 q19 q221) (by decide +kernel) rfl rfl ⟨Nat.le_of_ble_eq_true rfl, Nat.le_of_ble_eq_true rfl⟩ ⟨Nat.le_of_ble_eq_true rfl, Nat.le_of_ble_eq_true rfl⟩ rfl hl.1 rfl (Nat.le_of_ble_eq_true rfl) dL_law_161 (fun r1 u1 H locs hp1 hS => ?_)
  obtain ⟨rfl, rfl⟩ := hp0
  obtain ⟨rfl, rfl⟩ := hp1
  refine lv_icmp_eq (tgt := 379) hx hb dL_law_164 (by decide) (fun _ => ?_) (fun hne => absurd (rfl) hne)
  exact hk M ar us sv bf d p0 p1 h0 h1 w0 w1 q0_ q1_ q2_ q3_ q4_ q5_ hOK _ _ hS ls hl
set_option maxHeartbeats 4000000 in
set_option maxRecDepth 100000 in
theorem law_op3 {p : Program} {l : Launch} {e : Env} {s : State} {m : MethodId} {below : List Frame} {meth : Method} {c : Code} {b L : Nat} {xs : Nat → Int32} {D : va_G} {ad0 ad1 : Nat → Nat} {ca0 ca1 : Nat → ClassId} {Q : State → Prop} (hL : L ≤ 256) (C0 : lw_At p s m meth c b L xs) (hK0 : va_K D vwCl (gt ca0) s) (hK1 : va_K D vwCl (mt ca1) s) (i : Nat) (hi : i + 4 ≤ L) (hk : ∀ (M ar us sv bf : Nat → Nat) (d p0 p1 h0 h1 w0 w1 q0_ q1_ q2_ q3_ q4_ q5_ : Nat), gOK M d ar us sv → ∀ (H : Heap) (locs : List Loc), lS D ad0 ca0 ad1 ca1 s (ar, us, sv, d, p0, p1, h0, h1, w0, w1) (M, bf, d, q0_, q1_, q2_, q3_, q4_, q5_) H locs → ∀ ls : Array Slot, lv_has ls 4 [(3, .int (nI i)), (2, .ref (ad1 0)), (1, .ref (ad0 0)), (0, .ref b)] → W p l e room_1 s m #[Value.ref b] below meth c H locs 13 347 Q (F0 m 379 ls [])) (M ar us sv bf : Nat → Nat) (d p0 p1 h0 h1 w0 w1 q0_ q1_ q2_ q3_ q4_ q5_ : Nat) (hOK : gOK M d ar us sv) (H : Heap) (locs : List Loc) (hS : lS D ad0 ca0 ad1 ca1 s (ar, us, sv, d, p0, p1, h0, h1, w0, w1) (M, bf, d, q0_, q1_, q2_, q3_, q4_, q5_) H locs) (ls : Array Slot) (hl : lv_has ls 4 [(3, .int (nI i)), (2, .ref (ad1 0)), (1, .ref (ad0 0)), (0, .ref b)]) : W p l e room_1 s m #[Value.ref b] below meth c H locs 13 347 Q (F0 m 169 ls []) := by
  obtain ⟨hx, hb, hr, hml, hown, hts, hX, hbl, hlocks, hgv⟩ := C0
  have htsA : ∀ w ∈ lw_all, w.before #[Value.ref b] s = true := fun w h => hts w (lw_all_tbl h)
  have hbA : ¬ lA s b := Nat.not_le.mpr hbl
  refine lv_aload_n hx hb dL_law_169 rfl (lv_at hl 2 rfl) ?_
  refine lc_x0 (n := 0) (rest := []) ⟨hx, hb, hml, hown, htsA⟩ hK0 hS (mX0_sure l D ad0 ca0 ar us sv d p0 p1 h0 h1 w0 w1 M hOK ) (lw_V q107 q108 q109 q18 q110) (by decide +kernel) rfl rfl ⟨Nat.le_of_ble_eq_true rfl, Nat.le_of_ble_eq_true rfl⟩ ⟨Nat.le_of_ble_eq_true rfl, Nat.le_of_ble_eq_true rfl⟩ rfl hl.1 rfl (Nat.le_of_ble_eq_true rfl) dL_law_170 (fun r u H locs hp0 hS => ?_)
  refine lv_aload_n hx hb dL_law_173 rfl (lv_at hl 1 rfl) ?_
  refine lc_x1 (n := 0) (rest := [.int r]) ⟨hx, hb, hml, hown, htsA⟩ hK1 hS (mX1_sure l D ad1 ca1 M bf d q0_ q1_ q2_ q3_ q4_ q5_ hOK.2.1 hOK.1 ) (lw_V q222 q223 q224 q19 q225) (by decide +kernel) rfl rfl ⟨Nat.le_of_ble_eq_true rfl, Nat.le_of_ble_eq_true rfl⟩ ⟨Nat.le_of_ble_eq_true rfl, Nat.le_of_ble_eq_true rfl⟩ rfl hl.1 rfl (Nat.le_of_ble_eq_true rfl) dL_law_174 (fun r1 u1 H locs hp1 hS => ?_)
  obtain ⟨rfl, f, rfl, hf⟩ := hp0
  obtain ⟨rfl, f1, rfl, hf1⟩ := hp1
  refine lv_icmp_eq (tgt := 379) hx hb dL_law_177 (by decide) (fun _ => ?_) (fun hne => absurd (by rw [sureIs_un hf hf1]) hne)
  exact hk M ar us sv bf d p0 p1 h0 h1 w0 w1 q0_ q1_ q2_ q3_ q4_ q5_ hOK _ _ hS ls hl
set_option maxHeartbeats 4000000 in
set_option maxRecDepth 100000 in
theorem law_op4 {p : Program} {l : Launch} {e : Env} {s : State} {m : MethodId} {below : List Frame} {meth : Method} {c : Code} {b L : Nat} {xs : Nat → Int32} {D : va_G} {ad0 ad1 : Nat → Nat} {ca0 ca1 : Nat → ClassId} {Q : State → Prop} (hL : L ≤ 256) (C0 : lw_At p s m meth c b L xs) (hK0 : va_K D vwCl (gt ca0) s) (hK1 : va_K D vwCl (mt ca1) s) (i : Nat) (hi : i + 4 ≤ L) (hk : ∀ (M ar us sv bf : Nat → Nat) (d p0 p1 h0 h1 w0 w1 q0_ q1_ q2_ q3_ q4_ q5_ : Nat), gOK M d ar us sv → ∀ (H : Heap) (locs : List Loc), lS D ad0 ca0 ad1 ca1 s (ar, us, sv, d, p0, p1, h0, h1, w0, w1) (M, bf, d, q0_, q1_, q2_, q3_, q4_, q5_) H locs → ∀ ls : Array Slot, lv_has ls 4 [(3, .int (nI i)), (2, .ref (ad1 0)), (1, .ref (ad0 0)), (0, .ref b)] → W p l e room_1 s m #[Value.ref b] below meth c H locs 13 347 Q (F0 m 379 ls [])) (M ar us sv bf : Nat → Nat) (d p0 p1 h0 h1 w0 w1 q0_ q1_ q2_ q3_ q4_ q5_ : Nat) (hOK : gOK M d ar us sv) (H : Heap) (locs : List Loc) (hS : lS D ad0 ca0 ad1 ca1 s (ar, us, sv, d, p0, p1, h0, h1, w0, w1) (M, bf, d, q0_, q1_, q2_, q3_, q4_, q5_) H locs) (ls : Array Slot) (hl : lv_has ls 4 [(3, .int (nI i)), (2, .ref (ad1 0)), (1, .ref (ad0 0)), (0, .ref b)]) : W p l e room_1 s m #[Value.ref b] below meth c H locs 13 347 Q (F0 m 182 ls []) := by
  obtain ⟨hx, hb, hr, hml, hown, hts, hX, hbl, hlocks, hgv⟩ := C0
  have htsA : ∀ w ∈ lw_all, w.before #[Value.ref b] s = true := fun w h => hts w (lw_all_tbl h)
  have hbA : ¬ lA s b := Nat.not_le.mpr hbl
  refine lv_aload_n hx hb dL_law_182 rfl (lv_at hl 2 rfl) ?_
  refine lv_aload_n hx hb dL_law_183 rfl (lv_at hl 3 rfl) ?_
  refine lv_iload_n hx hb dL_law_184 rfl (lv_at hl 0 rfl) ?_
  refine lv_iconst (v := nI 1) hx hb dL_law_185 (by decide) ?_
  refine n_add hx hb dL_law_186 ?_
  refine va_sld hx hb hX hbl hbA hS.2.2 (vp_in_nI (by omega) (by omega)) dL_law_187 ?_
  refine lc_x0 (n := 1) (rest := []) ⟨hx, hb, hml, hown, htsA⟩ hK0 hS (mX0_position l D ad0 ca0 ar us sv d p0 p1 h0 h1 w0 w1 M hOK (xs (nI (i + 1)).toNatClampNeg)) (lw_V q115 q116 q117 q18 q118) (by decide +kernel) rfl rfl ⟨Nat.le_of_ble_eq_true rfl, Nat.le_of_ble_eq_true rfl⟩ ⟨Nat.le_of_ble_eq_true rfl, Nat.le_of_ble_eq_true rfl⟩ rfl hl.1 rfl (Nat.le_of_ble_eq_true rfl) dL_law_188 (fun r u H locs hp0 hS => ?_)
  refine lv_aload_n hx hb dL_law_191 rfl (lv_at hl 1 rfl) ?_
  refine lv_aload_n hx hb dL_law_192 rfl (lv_at hl 3 rfl) ?_
  refine lv_iload_n hx hb dL_law_193 rfl (lv_at hl 0 rfl) ?_
  refine lv_iconst (v := nI 1) hx hb dL_law_194 (by decide) ?_
  refine n_add hx hb dL_law_195 ?_
  refine va_sld hx hb hX hbl hbA hS.2.2 (vp_in_nI (by omega) (by omega)) dL_law_196 ?_
  refine lc_x1 (n := 1) (rest := [.int r]) ⟨hx, hb, hml, hown, htsA⟩ hK1 hS (mX1_position l D ad1 ca1 M bf d q0_ q1_ q2_ q3_ q4_ q5_ hOK.2.1 hOK.1 (xs (nI (i + 1)).toNatClampNeg)) (lw_V q226 q227 q228 q19 q229) (by decide +kernel) rfl rfl ⟨Nat.le_of_ble_eq_true rfl, Nat.le_of_ble_eq_true rfl⟩ ⟨Nat.le_of_ble_eq_true rfl, Nat.le_of_ble_eq_true rfl⟩ rfl hl.1 rfl (Nat.le_of_ble_eq_true rfl) dL_law_197 (fun r1 u1 H locs hp1 hS => ?_)
  obtain ⟨⟨⟨a0, a1, a2, a3, a4, a5⟩, rfl⟩, hr0⟩ := hp0
  obtain ⟨⟨⟨b0, b1, b2, b3, b4, b5⟩, rfl⟩, hr1⟩ := hp1
  refine lv_icmp_eq (tgt := 379) hx hb dL_law_200 (by decide) (fun _ => ?_) (fun hne => absurd (aSel_un hr0 hr1) hne)
  exact hk M ar us sv bf d a0 a1 a2 a3 a4 a5 b0 b1 b2 b3 b4 b5 hOK _ _ hS ls hl
set_option maxHeartbeats 4000000 in
set_option maxRecDepth 100000 in
theorem law_op5 {p : Program} {l : Launch} {e : Env} {s : State} {m : MethodId} {below : List Frame} {meth : Method} {c : Code} {b L : Nat} {xs : Nat → Int32} {D : va_G} {ad0 ad1 : Nat → Nat} {ca0 ca1 : Nat → ClassId} {Q : State → Prop} (hL : L ≤ 256) (C0 : lw_At p s m meth c b L xs) (hK0 : va_K D vwCl (gt ca0) s) (hK1 : va_K D vwCl (mt ca1) s) (i : Nat) (hi : i + 4 ≤ L) (hk : ∀ (M ar us sv bf : Nat → Nat) (d p0 p1 h0 h1 w0 w1 q0_ q1_ q2_ q3_ q4_ q5_ : Nat), gOK M d ar us sv → ∀ (H : Heap) (locs : List Loc), lS D ad0 ca0 ad1 ca1 s (ar, us, sv, d, p0, p1, h0, h1, w0, w1) (M, bf, d, q0_, q1_, q2_, q3_, q4_, q5_) H locs → ∀ ls : Array Slot, lv_has ls 4 [(3, .int (nI i)), (2, .ref (ad1 0)), (1, .ref (ad0 0)), (0, .ref b)] → W p l e room_1 s m #[Value.ref b] below meth c H locs 13 347 Q (F0 m 379 ls [])) (M ar us sv bf : Nat → Nat) (d p0 p1 h0 h1 w0 w1 q0_ q1_ q2_ q3_ q4_ q5_ : Nat) (hOK : gOK M d ar us sv) (H : Heap) (locs : List Loc) (hS : lS D ad0 ca0 ad1 ca1 s (ar, us, sv, d, p0, p1, h0, h1, w0, w1) (M, bf, d, q0_, q1_, q2_, q3_, q4_, q5_) H locs) (ls : Array Slot) (hl : lv_has ls 4 [(3, .int (nI i)), (2, .ref (ad1 0)), (1, .ref (ad0 0)), (0, .ref b)]) : W p l e room_1 s m #[Value.ref b] below meth c H locs 13 347 Q (F0 m 205 ls []) := by
  obtain ⟨hx, hb, hr, hml, hown, hts, hX, hbl, hlocks, hgv⟩ := C0
  have htsA : ∀ w ∈ lw_all, w.before #[Value.ref b] s = true := fun w h => hts w (lw_all_tbl h)
  have hbA : ¬ lA s b := Nat.not_le.mpr hbl
  refine lv_aload_n hx hb dL_law_205 rfl (lv_at hl 2 rfl) ?_
  refine lv_aload_n hx hb dL_law_206 rfl (lv_at hl 3 rfl) ?_
  refine lv_iload_n hx hb dL_law_207 rfl (lv_at hl 0 rfl) ?_
  refine lv_iconst (v := nI 1) hx hb dL_law_208 (by decide) ?_
  refine n_add hx hb dL_law_209 ?_
  refine va_sld hx hb hX hbl hbA hS.2.2 (vp_in_nI (by omega) (by omega)) dL_law_210 ?_
  refine lc_x0 (n := 1) (rest := []) ⟨hx, hb, hml, hown, htsA⟩ hK0 hS (mX0_strength l D ad0 ca0 ar us sv d p0 p1 h0 h1 w0 w1 M hOK (xs (nI (i + 1)).toNatClampNeg)) (lw_V q119 q120 q121 q18 q122) (by decide +kernel) rfl rfl ⟨Nat.le_of_ble_eq_true rfl, Nat.le_of_ble_eq_true rfl⟩ ⟨Nat.le_of_ble_eq_true rfl, Nat.le_of_ble_eq_true rfl⟩ rfl hl.1 rfl (Nat.le_of_ble_eq_true rfl) dL_law_211 (fun r u H locs hp0 hS => ?_)
  refine lv_aload_n hx hb dL_law_214 rfl (lv_at hl 1 rfl) ?_
  refine lv_aload_n hx hb dL_law_215 rfl (lv_at hl 3 rfl) ?_
  refine lv_iload_n hx hb dL_law_216 rfl (lv_at hl 0 rfl) ?_
  refine lv_iconst (v := nI 1) hx hb dL_law_217 (by decide) ?_
  refine n_add hx hb dL_law_218 ?_
  refine va_sld hx hb hX hbl hbA hS.2.2 (vp_in_nI (by omega) (by omega)) dL_law_219 ?_
  refine lc_x1 (n := 1) (rest := [.int r]) ⟨hx, hb, hml, hown, htsA⟩ hK1 hS (mX1_strength l D ad1 ca1 M bf d q0_ q1_ q2_ q3_ q4_ q5_ hOK.2.1 hOK.1 (xs (nI (i + 1)).toNatClampNeg)) (lw_V q230 q231 q232 q19 q233) (by decide +kernel) rfl rfl ⟨Nat.le_of_ble_eq_true rfl, Nat.le_of_ble_eq_true rfl⟩ ⟨Nat.le_of_ble_eq_true rfl, Nat.le_of_ble_eq_true rfl⟩ rfl hl.1 rfl (Nat.le_of_ble_eq_true rfl) dL_law_220 (fun r1 u1 H locs hp1 hS => ?_)
  obtain ⟨⟨⟨a0, a1, a2, a3, a4, a5⟩, rfl⟩, hr0⟩ := hp0
  obtain ⟨⟨⟨b0, b1, b2, b3, b4, b5⟩, rfl⟩, hr1⟩ := hp1
  refine lv_icmp_eq (tgt := 379) hx hb dL_law_223 (by decide) (fun _ => ?_) (fun hne => absurd (aSel_un hr0 hr1) hne)
  exact hk M ar us sv bf d a0 a1 a2 a3 a4 a5 b0 b1 b2 b3 b4 b5 hOK _ _ hS ls hl
set_option maxHeartbeats 4000000 in
set_option maxRecDepth 100000 in
theorem law_op6 {p : Program} {l : Launch} {e : Env} {s : State} {m : MethodId} {below : List Frame} {meth : Method} {c : Code} {b L : Nat} {xs : Nat → Int32} {D : va_G} {ad0 ad1 : Nat → Nat} {ca0 ca1 : Nat → ClassId} {Q : State → Prop} (hL : L ≤ 256) (C0 : lw_At p s m meth c b L xs) (hK0 : va_K D vwCl (gt ca0) s) (hK1 : va_K D vwCl (mt ca1) s) (i : Nat) (hi : i + 4 ≤ L) (hk : ∀ (M ar us sv bf : Nat → Nat) (d p0 p1 h0 h1 w0 w1 q0_ q1_ q2_ q3_ q4_ q5_ : Nat), gOK M d ar us sv → ∀ (H : Heap) (locs : List Loc), lS D ad0 ca0 ad1 ca1 s (ar, us, sv, d, p0, p1, h0, h1, w0, w1) (M, bf, d, q0_, q1_, q2_, q3_, q4_, q5_) H locs → ∀ ls : Array Slot, lv_has ls 4 [(3, .int (nI i)), (2, .ref (ad1 0)), (1, .ref (ad0 0)), (0, .ref b)] → W p l e room_1 s m #[Value.ref b] below meth c H locs 13 347 Q (F0 m 379 ls [])) (M ar us sv bf : Nat → Nat) (d p0 p1 h0 h1 w0 w1 q0_ q1_ q2_ q3_ q4_ q5_ : Nat) (hOK : gOK M d ar us sv) (H : Heap) (locs : List Loc) (hS : lS D ad0 ca0 ad1 ca1 s (ar, us, sv, d, p0, p1, h0, h1, w0, w1) (M, bf, d, q0_, q1_, q2_, q3_, q4_, q5_) H locs) (ls : Array Slot) (hl : lv_has ls 4 [(3, .int (nI i)), (2, .ref (ad1 0)), (1, .ref (ad0 0)), (0, .ref b)]) : W p l e room_1 s m #[Value.ref b] below meth c H locs 13 347 Q (F0 m 228 ls []) := by
  obtain ⟨hx, hb, hr, hml, hown, hts, hX, hbl, hlocks, hgv⟩ := C0
  have htsA : ∀ w ∈ lw_all, w.before #[Value.ref b] s = true := fun w h => hts w (lw_all_tbl h)
  have hbA : ¬ lA s b := Nat.not_le.mpr hbl
  refine lv_aload_n hx hb dL_law_228 rfl (lv_at hl 2 rfl) ?_
  refine lv_aload_n hx hb dL_law_229 rfl (lv_at hl 3 rfl) ?_
  refine lv_iload_n hx hb dL_law_230 rfl (lv_at hl 0 rfl) ?_
  refine lv_iconst (v := nI 1) hx hb dL_law_231 (by decide) ?_
  refine n_add hx hb dL_law_232 ?_
  refine va_sld hx hb hX hbl hbA hS.2.2 (vp_in_nI (by omega) (by omega)) dL_law_233 ?_
  refine lc_x0 (n := 1) (rest := []) ⟨hx, hb, hml, hown, htsA⟩ hK0 hS (mX0_pause l D ad0 ca0 ar us sv d p0 p1 h0 h1 w0 w1 M hOK (xs (nI (i + 1)).toNatClampNeg)) (lw_V q123 q124 q125 q18 q126) (by decide +kernel) rfl rfl ⟨Nat.le_of_ble_eq_true rfl, Nat.le_of_ble_eq_true rfl⟩ ⟨Nat.le_of_ble_eq_true rfl, Nat.le_of_ble_eq_true rfl⟩ rfl hl.1 rfl (Nat.le_of_ble_eq_true rfl) dL_law_234 (fun r u H locs hp0 hS => ?_)
  refine lv_aload_n hx hb dL_law_237 rfl (lv_at hl 1 rfl) ?_
  refine lv_aload_n hx hb dL_law_238 rfl (lv_at hl 3 rfl) ?_
  refine lv_iload_n hx hb dL_law_239 rfl (lv_at hl 0 rfl) ?_
  refine lv_iconst (v := nI 1) hx hb dL_law_240 (by decide) ?_
  refine n_add hx hb dL_law_241 ?_
  refine va_sld hx hb hX hbl hbA hS.2.2 (vp_in_nI (by omega) (by omega)) dL_law_242 ?_
  refine lc_x1 (n := 1) (rest := [.int r]) ⟨hx, hb, hml, hown, htsA⟩ hK1 hS (mX1_pause l D ad1 ca1 M bf d q0_ q1_ q2_ q3_ q4_ q5_ hOK.2.1 hOK.1 (xs (nI (i + 1)).toNatClampNeg)) (lw_V q234 q235 q236 q19 q237) (by decide +kernel) rfl rfl ⟨Nat.le_of_ble_eq_true rfl, Nat.le_of_ble_eq_true rfl⟩ ⟨Nat.le_of_ble_eq_true rfl, Nat.le_of_ble_eq_true rfl⟩ rfl hl.1 rfl (Nat.le_of_ble_eq_true rfl) dL_law_243 (fun r1 u1 H locs hp1 hS => ?_)
  obtain ⟨⟨⟨a0, a1, a2, a3, a4, a5⟩, rfl⟩, hr0⟩ := hp0
  obtain ⟨⟨⟨b0, b1, b2, b3, b4, b5⟩, rfl⟩, hr1⟩ := hp1
  refine lv_icmp_eq (tgt := 379) hx hb dL_law_246 (by decide) (fun _ => ?_) (fun hne => absurd (aSel_un hr0 hr1) hne)
  exact hk M ar us sv bf d a0 a1 a2 a3 a4 a5 b0 b1 b2 b3 b4 b5 hOK _ _ hS ls hl
set_option maxHeartbeats 4000000 in
set_option maxRecDepth 100000 in
theorem law_op7 {p : Program} {l : Launch} {e : Env} {s : State} {m : MethodId} {below : List Frame} {meth : Method} {c : Code} {b L : Nat} {xs : Nat → Int32} {D : va_G} {ad0 ad1 : Nat → Nat} {ca0 ca1 : Nat → ClassId} {Q : State → Prop} (hL : L ≤ 256) (C0 : lw_At p s m meth c b L xs) (hK0 : va_K D vwCl (gt ca0) s) (hK1 : va_K D vwCl (mt ca1) s) (i : Nat) (hi : i + 4 ≤ L) (hk : ∀ (M ar us sv bf : Nat → Nat) (d p0 p1 h0 h1 w0 w1 q0_ q1_ q2_ q3_ q4_ q5_ : Nat), gOK M d ar us sv → ∀ (H : Heap) (locs : List Loc), lS D ad0 ca0 ad1 ca1 s (ar, us, sv, d, p0, p1, h0, h1, w0, w1) (M, bf, d, q0_, q1_, q2_, q3_, q4_, q5_) H locs → ∀ ls : Array Slot, lv_has ls 4 [(3, .int (nI i)), (2, .ref (ad1 0)), (1, .ref (ad0 0)), (0, .ref b)] → W p l e room_1 s m #[Value.ref b] below meth c H locs 13 347 Q (F0 m 379 ls [])) (M ar us sv bf : Nat → Nat) (d p0 p1 h0 h1 w0 w1 q0_ q1_ q2_ q3_ q4_ q5_ : Nat) (hOK : gOK M d ar us sv) (H : Heap) (locs : List Loc) (hS : lS D ad0 ca0 ad1 ca1 s (ar, us, sv, d, p0, p1, h0, h1, w0, w1) (M, bf, d, q0_, q1_, q2_, q3_, q4_, q5_) H locs) (ls : Array Slot) (hl : lv_has ls 4 [(3, .int (nI i)), (2, .ref (ad1 0)), (1, .ref (ad0 0)), (0, .ref b)]) : W p l e room_1 s m #[Value.ref b] below meth c H locs 13 347 Q (F0 m 251 ls []) := by
  obtain ⟨hx, hb, hr, hml, hown, hts, hX, hbl, hlocks, hgv⟩ := C0
  have htsA : ∀ w ∈ lw_all, w.before #[Value.ref b] s = true := fun w h => hts w (lw_all_tbl h)
  have hbA : ¬ lA s b := Nat.not_le.mpr hbl
  refine lv_aload_n hx hb dL_law_251 rfl (lv_at hl 2 rfl) ?_
  refine lv_aload_n hx hb dL_law_252 rfl (lv_at hl 3 rfl) ?_
  refine lv_iload_n hx hb dL_law_253 rfl (lv_at hl 0 rfl) ?_
  refine lv_iconst (v := nI 1) hx hb dL_law_254 (by decide) ?_
  refine n_add hx hb dL_law_255 ?_
  refine va_sld hx hb hX hbl hbA hS.2.2 (vp_in_nI (by omega) (by omega)) dL_law_256 ?_
  refine lc_x0 (n := 1) (rest := []) ⟨hx, hb, hml, hown, htsA⟩ hK0 hS (mX0_shown l D ad0 ca0 ar us sv d p0 p1 h0 h1 w0 w1 M hOK (xs (nI (i + 1)).toNatClampNeg)) (lw_V q127 q128 q129 q18 q130) (by decide +kernel) rfl rfl ⟨Nat.le_of_ble_eq_true rfl, Nat.le_of_ble_eq_true rfl⟩ ⟨Nat.le_of_ble_eq_true rfl, Nat.le_of_ble_eq_true rfl⟩ rfl hl.1 rfl (Nat.le_of_ble_eq_true rfl) dL_law_257 (fun r u H locs hp0 hS => ?_)
  refine lv_aload_n hx hb dL_law_260 rfl (lv_at hl 1 rfl) ?_
  refine lv_aload_n hx hb dL_law_261 rfl (lv_at hl 3 rfl) ?_
  refine lv_iload_n hx hb dL_law_262 rfl (lv_at hl 0 rfl) ?_
  refine lv_iconst (v := nI 1) hx hb dL_law_263 (by decide) ?_
  refine n_add hx hb dL_law_264 ?_
  refine va_sld hx hb hX hbl hbA hS.2.2 (vp_in_nI (by omega) (by omega)) dL_law_265 ?_
  refine lc_x1 (n := 1) (rest := [.int r]) ⟨hx, hb, hml, hown, htsA⟩ hK1 hS (mX1_shown l D ad1 ca1 M bf d q0_ q1_ q2_ q3_ q4_ q5_ hOK.2.1 hOK.1 (xs (nI (i + 1)).toNatClampNeg)) (lw_V q238 q239 q240 q19 q241) (by decide +kernel) rfl rfl ⟨Nat.le_of_ble_eq_true rfl, Nat.le_of_ble_eq_true rfl⟩ ⟨Nat.le_of_ble_eq_true rfl, Nat.le_of_ble_eq_true rfl⟩ rfl hl.1 rfl (Nat.le_of_ble_eq_true rfl) dL_law_266 (fun r1 u1 H locs hp1 hS => ?_)
  obtain ⟨⟨⟨a0, a1, a2, a3, a4, a5⟩, rfl⟩, hr0⟩ := hp0
  obtain ⟨⟨⟨b0, b1, b2, b3, b4, b5⟩, rfl⟩, hr1⟩ := hp1
  refine lv_icmp_eq (tgt := 379) hx hb dL_law_269 (by decide) (fun _ => ?_) (fun hne => absurd (aIdx_un (by decide) hr0 hr1) hne)
  exact hk M ar us sv bf d a0 a1 a2 a3 a4 a5 b0 b1 b2 b3 b4 b5 hOK _ _ hS ls hl
set_option maxHeartbeats 4000000 in
set_option maxRecDepth 100000 in
theorem law_op8 {p : Program} {l : Launch} {e : Env} {s : State} {m : MethodId} {below : List Frame} {meth : Method} {c : Code} {b L : Nat} {xs : Nat → Int32} {D : va_G} {ad0 ad1 : Nat → Nat} {ca0 ca1 : Nat → ClassId} {Q : State → Prop} (hL : L ≤ 256) (C0 : lw_At p s m meth c b L xs) (hK0 : va_K D vwCl (gt ca0) s) (hK1 : va_K D vwCl (mt ca1) s) (i : Nat) (hi : i + 4 ≤ L) (hk : ∀ (M ar us sv bf : Nat → Nat) (d p0 p1 h0 h1 w0 w1 q0_ q1_ q2_ q3_ q4_ q5_ : Nat), gOK M d ar us sv → ∀ (H : Heap) (locs : List Loc), lS D ad0 ca0 ad1 ca1 s (ar, us, sv, d, p0, p1, h0, h1, w0, w1) (M, bf, d, q0_, q1_, q2_, q3_, q4_, q5_) H locs → ∀ ls : Array Slot, lv_has ls 4 [(3, .int (nI i)), (2, .ref (ad1 0)), (1, .ref (ad0 0)), (0, .ref b)] → W p l e room_1 s m #[Value.ref b] below meth c H locs 13 347 Q (F0 m 379 ls [])) (M ar us sv bf : Nat → Nat) (d p0 p1 h0 h1 w0 w1 q0_ q1_ q2_ q3_ q4_ q5_ : Nat) (hOK : gOK M d ar us sv) (H : Heap) (locs : List Loc) (hS : lS D ad0 ca0 ad1 ca1 s (ar, us, sv, d, p0, p1, h0, h1, w0, w1) (M, bf, d, q0_, q1_, q2_, q3_, q4_, q5_) H locs) (ls : Array Slot) (hl : lv_has ls 4 [(3, .int (nI i)), (2, .ref (ad1 0)), (1, .ref (ad0 0)), (0, .ref b)]) : W p l e room_1 s m #[Value.ref b] below meth c H locs 13 347 Q (F0 m 274 ls []) := by
  obtain ⟨hx, hb, hr, hml, hown, hts, hX, hbl, hlocks, hgv⟩ := C0
  have htsA : ∀ w ∈ lw_all, w.before #[Value.ref b] s = true := fun w h => hts w (lw_all_tbl h)
  have hbA : ¬ lA s b := Nat.not_le.mpr hbl
  refine lv_aload_n hx hb dL_law_274 rfl (lv_at hl 2 rfl) ?_
  refine lv_aload_n hx hb dL_law_275 rfl (lv_at hl 3 rfl) ?_
  refine lv_iload_n hx hb dL_law_276 rfl (lv_at hl 0 rfl) ?_
  refine lv_iconst (v := nI 1) hx hb dL_law_277 (by decide) ?_
  refine n_add hx hb dL_law_278 ?_
  refine va_sld hx hb hX hbl hbA hS.2.2 (vp_in_nI (by omega) (by omega)) dL_law_279 ?_
  refine lv_aload_n hx hb dL_law_280 rfl (lv_at hl 3 rfl) ?_
  refine lv_iload_n hx hb dL_law_281 rfl (lv_at hl 0 rfl) ?_
  refine lv_iconst (v := nI 2) hx hb dL_law_282 (by decide) ?_
  refine n_add hx hb dL_law_283 ?_
  refine va_sld hx hb hX hbl hbA hS.2.2 (vp_in_nI (by omega) (by omega)) dL_law_284 ?_
  refine lc_x0 (n := 2) (rest := []) ⟨hx, hb, hml, hown, htsA⟩ hK0 hS (mX0_move l D ad0 ca0 ar us sv d p0 p1 h0 h1 w0 w1 M hOK (xs (nI (i + 1)).toNatClampNeg) (xs (nI (i + 2)).toNatClampNeg)) (lw_V q131 q132 q133 q18 q134) (by decide +kernel) rfl rfl ⟨Nat.le_of_ble_eq_true rfl, Nat.le_of_ble_eq_true rfl⟩ ⟨Nat.le_of_ble_eq_true rfl, Nat.le_of_ble_eq_true rfl⟩ rfl hl.1 rfl (Nat.le_of_ble_eq_true rfl) dL_law_285 (fun r u H locs hp0 hS => ?_)
  refine lv_aload_n hx hb dL_law_288 rfl (lv_at hl 1 rfl) ?_
  refine lv_aload_n hx hb dL_law_289 rfl (lv_at hl 3 rfl) ?_
  refine lv_iload_n hx hb dL_law_290 rfl (lv_at hl 0 rfl) ?_
  refine lv_iconst (v := nI 1) hx hb dL_law_291 (by decide) ?_
  refine n_add hx hb dL_law_292 ?_
  refine va_sld hx hb hX hbl hbA hS.2.2 (vp_in_nI (by omega) (by omega)) dL_law_293 ?_
  refine lv_aload_n hx hb dL_law_294 rfl (lv_at hl 3 rfl) ?_
  refine lv_iload_n hx hb dL_law_295 rfl (lv_at hl 0 rfl) ?_
  refine lv_iconst (v := nI 2) hx hb dL_law_296 (by decide) ?_
  refine n_add hx hb dL_law_297 ?_
  refine va_sld hx hb hX hbl hbA hS.2.2 (vp_in_nI (by omega) (by omega)) dL_law_298 ?_
  refine lc_x1 (n := 2) (rest := [.int r]) ⟨hx, hb, hml, hown, htsA⟩ hK1 hS (mX1_move l D ad1 ca1 M bf d q0_ q1_ q2_ q3_ q4_ q5_ hOK.2.1 hOK.1 (xs (nI (i + 1)).toNatClampNeg) (xs (nI (i + 2)).toNatClampNeg)) (lw_V q242 q243 q244 q19 q245) (by decide +kernel) rfl rfl ⟨Nat.le_of_ble_eq_true rfl, Nat.le_of_ble_eq_true rfl⟩ ⟨Nat.le_of_ble_eq_true rfl, Nat.le_of_ble_eq_true rfl⟩ rfl hl.1 rfl (Nat.le_of_ble_eq_true rfl) dL_law_299 (fun r1 u1 H locs hp1 hS => ?_)
  obtain ⟨⟨⟨a0, a1, a2, a3, a4, a5⟩, rfl⟩, hr0⟩ := hp0
  obtain ⟨⟨⟨b0, b1, b2, b3, b4, b5⟩, rfl⟩, hr1⟩ := hp1
  refine lv_icmp_eq (tgt := 379) hx hb dL_law_302 (by decide) (fun _ => ?_) (fun hne => absurd (aMove_un hr0 hr1) hne)
  exact hk M ar us sv bf d a0 a1 a2 a3 a4 a5 b0 b1 b2 b3 b4 b5 hOK _ _ hS ls hl
set_option maxHeartbeats 4000000 in
set_option maxRecDepth 100000 in
theorem law_op9 {p : Program} {l : Launch} {e : Env} {s : State} {m : MethodId} {below : List Frame} {meth : Method} {c : Code} {b L : Nat} {xs : Nat → Int32} {D : va_G} {ad0 ad1 : Nat → Nat} {ca0 ca1 : Nat → ClassId} {Q : State → Prop} (hL : L ≤ 256) (C0 : lw_At p s m meth c b L xs) (hK0 : va_K D vwCl (gt ca0) s) (hK1 : va_K D vwCl (mt ca1) s) (i : Nat) (hi : i + 4 ≤ L) (hk : ∀ (M ar us sv bf : Nat → Nat) (d p0 p1 h0 h1 w0 w1 q0_ q1_ q2_ q3_ q4_ q5_ : Nat), gOK M d ar us sv → ∀ (H : Heap) (locs : List Loc), lS D ad0 ca0 ad1 ca1 s (ar, us, sv, d, p0, p1, h0, h1, w0, w1) (M, bf, d, q0_, q1_, q2_, q3_, q4_, q5_) H locs → ∀ ls : Array Slot, lv_has ls 4 [(3, .int (nI i)), (2, .ref (ad1 0)), (1, .ref (ad0 0)), (0, .ref b)] → W p l e room_1 s m #[Value.ref b] below meth c H locs 13 347 Q (F0 m 379 ls [])) (M ar us sv bf : Nat → Nat) (d p0 p1 h0 h1 w0 w1 q0_ q1_ q2_ q3_ q4_ q5_ : Nat) (hOK : gOK M d ar us sv) (H : Heap) (locs : List Loc) (hS : lS D ad0 ca0 ad1 ca1 s (ar, us, sv, d, p0, p1, h0, h1, w0, w1) (M, bf, d, q0_, q1_, q2_, q3_, q4_, q5_) H locs) (ls : Array Slot) (hl : lv_has ls 4 [(3, .int (nI i)), (2, .ref (ad1 0)), (1, .ref (ad0 0)), (0, .ref b)]) : W p l e room_1 s m #[Value.ref b] below meth c H locs 13 347 Q (F0 m 307 ls []) := by
  obtain ⟨hx, hb, hr, hml, hown, hts, hX, hbl, hlocks, hgv⟩ := C0
  have htsA : ∀ w ∈ lw_all, w.before #[Value.ref b] s = true := fun w h => hts w (lw_all_tbl h)
  have hbA : ¬ lA s b := Nat.not_le.mpr hbl
  refine lv_aload_n hx hb dL_law_307 rfl (lv_at hl 2 rfl) ?_
  refine lv_aload_n hx hb dL_law_308 rfl (lv_at hl 3 rfl) ?_
  refine lv_iload_n hx hb dL_law_309 rfl (lv_at hl 0 rfl) ?_
  refine lv_iconst (v := nI 1) hx hb dL_law_310 (by decide) ?_
  refine n_add hx hb dL_law_311 ?_
  refine va_sld hx hb hX hbl hbA hS.2.2 (vp_in_nI (by omega) (by omega)) dL_law_312 ?_
  refine lc_x0 (n := 1) (rest := []) ⟨hx, hb, hml, hown, htsA⟩ hK0 hS (mX0_missing l D ad0 ca0 ar us sv d p0 p1 h0 h1 w0 w1 M hOK (xs (nI (i + 1)).toNatClampNeg)) (lw_V q135 q136 q137 q18 q138) (by decide +kernel) rfl rfl ⟨Nat.le_of_ble_eq_true rfl, Nat.le_of_ble_eq_true rfl⟩ ⟨Nat.le_of_ble_eq_true rfl, Nat.le_of_ble_eq_true rfl⟩ rfl hl.1 rfl (Nat.le_of_ble_eq_true rfl) dL_law_313 (fun r u H locs hp0 hS => ?_)
  refine lv_aload_n hx hb dL_law_316 rfl (lv_at hl 1 rfl) ?_
  refine lv_aload_n hx hb dL_law_317 rfl (lv_at hl 3 rfl) ?_
  refine lv_iload_n hx hb dL_law_318 rfl (lv_at hl 0 rfl) ?_
  refine lv_iconst (v := nI 1) hx hb dL_law_319 (by decide) ?_
  refine n_add hx hb dL_law_320 ?_
  refine va_sld hx hb hX hbl hbA hS.2.2 (vp_in_nI (by omega) (by omega)) dL_law_321 ?_
  refine lc_x1 (n := 1) (rest := [.int r]) ⟨hx, hb, hml, hown, htsA⟩ hK1 hS (mX1_missing l D ad1 ca1 M bf d q0_ q1_ q2_ q3_ q4_ q5_ hOK.2.1 hOK.1 (xs (nI (i + 1)).toNatClampNeg)) (lw_V q246 q247 q248 q19 q249) (by decide +kernel) rfl rfl ⟨Nat.le_of_ble_eq_true rfl, Nat.le_of_ble_eq_true rfl⟩ ⟨Nat.le_of_ble_eq_true rfl, Nat.le_of_ble_eq_true rfl⟩ rfl hl.1 rfl (Nat.le_of_ble_eq_true rfl) dL_law_322 (fun r1 u1 H locs hp1 hS => ?_)
  obtain ⟨⟨⟨a0, a1, a2, a3, a4, a5⟩, rfl⟩, hr0⟩ := hp0
  obtain ⟨⟨⟨b0, b1, b2, b3, b4, b5⟩, rfl⟩, hr1⟩ := hp1
  refine lv_icmp_eq (tgt := 379) hx hb dL_law_325 (by decide) (fun _ => ?_) (fun hne => absurd (aMiss_un hr0 hr1) hne)
  exact hk M ar us sv bf d a0 a1 a2 a3 a4 a5 b0 b1 b2 b3 b4 b5 hOK _ _ hS ls hl
set_option maxHeartbeats 4000000 in
set_option maxRecDepth 100000 in
theorem law_op10 {p : Program} {l : Launch} {e : Env} {s : State} {m : MethodId} {below : List Frame} {meth : Method} {c : Code} {b L : Nat} {xs : Nat → Int32} {D : va_G} {ad0 ad1 : Nat → Nat} {ca0 ca1 : Nat → ClassId} {Q : State → Prop} (hL : L ≤ 256) (C0 : lw_At p s m meth c b L xs) (hK0 : va_K D vwCl (gt ca0) s) (hK1 : va_K D vwCl (mt ca1) s) (i : Nat) (hi : i + 4 ≤ L) (hk : ∀ (M ar us sv bf : Nat → Nat) (d p0 p1 h0 h1 w0 w1 q0_ q1_ q2_ q3_ q4_ q5_ : Nat), gOK M d ar us sv → ∀ (H : Heap) (locs : List Loc), lS D ad0 ca0 ad1 ca1 s (ar, us, sv, d, p0, p1, h0, h1, w0, w1) (M, bf, d, q0_, q1_, q2_, q3_, q4_, q5_) H locs → ∀ ls : Array Slot, lv_has ls 4 [(3, .int (nI i)), (2, .ref (ad1 0)), (1, .ref (ad0 0)), (0, .ref b)] → W p l e room_1 s m #[Value.ref b] below meth c H locs 13 347 Q (F0 m 379 ls [])) (M ar us sv bf : Nat → Nat) (d p0 p1 h0 h1 w0 w1 q0_ q1_ q2_ q3_ q4_ q5_ : Nat) (hOK : gOK M d ar us sv) (H : Heap) (locs : List Loc) (hS : lS D ad0 ca0 ad1 ca1 s (ar, us, sv, d, p0, p1, h0, h1, w0, w1) (M, bf, d, q0_, q1_, q2_, q3_, q4_, q5_) H locs) (ls : Array Slot) (hl : lv_has ls 4 [(3, .int (nI i)), (2, .ref (ad1 0)), (1, .ref (ad0 0)), (0, .ref b)]) : W p l e room_1 s m #[Value.ref b] below meth c H locs 13 347 Q (F0 m 330 ls []) := by
  obtain ⟨hx, hb, hr, hml, hown, hts, hX, hbl, hlocks, hgv⟩ := C0
  have htsA : ∀ w ∈ lw_all, w.before #[Value.ref b] s = true := fun w h => hts w (lw_all_tbl h)
  have hbA : ¬ lA s b := Nat.not_le.mpr hbl
  refine lv_aload_n hx hb dL_law_330 rfl (lv_at hl 2 rfl) ?_
  refine lv_aload_n hx hb dL_law_331 rfl (lv_at hl 3 rfl) ?_
  refine lv_iload_n hx hb dL_law_332 rfl (lv_at hl 0 rfl) ?_
  refine lv_iconst (v := nI 1) hx hb dL_law_333 (by decide) ?_
  refine n_add hx hb dL_law_334 ?_
  refine va_sld hx hb hX hbl hbA hS.2.2 (vp_in_nI (by omega) (by omega)) dL_law_335 ?_
  refine lc_x0 (n := 1) (rest := []) ⟨hx, hb, hml, hown, htsA⟩ hK0 hS (mX0_winner l D ad0 ca0 ar us sv d p0 p1 h0 h1 w0 w1 M hOK (xs (nI (i + 1)).toNatClampNeg)) (lw_V q139 q140 q141 q18 q142) (by decide +kernel) rfl rfl ⟨Nat.le_of_ble_eq_true rfl, Nat.le_of_ble_eq_true rfl⟩ ⟨Nat.le_of_ble_eq_true rfl, Nat.le_of_ble_eq_true rfl⟩ rfl hl.1 rfl (Nat.le_of_ble_eq_true rfl) dL_law_336 (fun r u H locs hp0 hS => ?_)
  refine lv_aload_n hx hb dL_law_339 rfl (lv_at hl 1 rfl) ?_
  refine lv_aload_n hx hb dL_law_340 rfl (lv_at hl 3 rfl) ?_
  refine lv_iload_n hx hb dL_law_341 rfl (lv_at hl 0 rfl) ?_
  refine lv_iconst (v := nI 1) hx hb dL_law_342 (by decide) ?_
  refine n_add hx hb dL_law_343 ?_
  refine va_sld hx hb hX hbl hbA hS.2.2 (vp_in_nI (by omega) (by omega)) dL_law_344 ?_
  refine lc_x1 (n := 1) (rest := [.int r]) ⟨hx, hb, hml, hown, htsA⟩ hK1 hS (mX1_winner l D ad1 ca1 M bf d q0_ q1_ q2_ q3_ q4_ q5_ hOK.2.1 hOK.1 (xs (nI (i + 1)).toNatClampNeg)) (lw_V q250 q251 q252 q19 q253) (by decide +kernel) rfl rfl ⟨Nat.le_of_ble_eq_true rfl, Nat.le_of_ble_eq_true rfl⟩ ⟨Nat.le_of_ble_eq_true rfl, Nat.le_of_ble_eq_true rfl⟩ rfl hl.1 rfl (Nat.le_of_ble_eq_true rfl) dL_law_345 (fun r1 u1 H locs hp1 hS => ?_)
  obtain ⟨⟨⟨a0, a1, a2, a3, a4, a5⟩, rfl⟩, hr0⟩ := hp0
  obtain ⟨⟨⟨b0, b1, b2, b3, b4, b5⟩, rfl⟩, hr1⟩ := hp1
  refine lv_icmp_eq (tgt := 379) hx hb dL_law_348 (by decide) (fun _ => ?_) (fun hne => absurd (aIdx_un (by decide) hr0 hr1) hne)
  exact hk M ar us sv bf d a0 a1 a2 a3 a4 a5 b0 b1 b2 b3 b4 b5 hOK _ _ hS ls hl
set_option maxHeartbeats 4000000 in
set_option maxRecDepth 100000 in
theorem law_op11 {p : Program} {l : Launch} {e : Env} {s : State} {m : MethodId} {below : List Frame} {meth : Method} {c : Code} {b L : Nat} {xs : Nat → Int32} {D : va_G} {ad0 ad1 : Nat → Nat} {ca0 ca1 : Nat → ClassId} {Q : State → Prop} (hL : L ≤ 256) (C0 : lw_At p s m meth c b L xs) (hK0 : va_K D vwCl (gt ca0) s) (hK1 : va_K D vwCl (mt ca1) s) (i : Nat) (hi : i + 4 ≤ L) (hk : ∀ (M ar us sv bf : Nat → Nat) (d p0 p1 h0 h1 w0 w1 q0_ q1_ q2_ q3_ q4_ q5_ : Nat), gOK M d ar us sv → ∀ (H : Heap) (locs : List Loc), lS D ad0 ca0 ad1 ca1 s (ar, us, sv, d, p0, p1, h0, h1, w0, w1) (M, bf, d, q0_, q1_, q2_, q3_, q4_, q5_) H locs → ∀ ls : Array Slot, lv_has ls 4 [(3, .int (nI i)), (2, .ref (ad1 0)), (1, .ref (ad0 0)), (0, .ref b)] → W p l e room_1 s m #[Value.ref b] below meth c H locs 13 347 Q (F0 m 379 ls [])) (M ar us sv bf : Nat → Nat) (d p0 p1 h0 h1 w0 w1 q0_ q1_ q2_ q3_ q4_ q5_ : Nat) (hOK : gOK M d ar us sv) (H : Heap) (locs : List Loc) (hS : lS D ad0 ca0 ad1 ca1 s (ar, us, sv, d, p0, p1, h0, h1, w0, w1) (M, bf, d, q0_, q1_, q2_, q3_, q4_, q5_) H locs) (ls : Array Slot) (hl : lv_has ls 4 [(3, .int (nI i)), (2, .ref (ad1 0)), (1, .ref (ad0 0)), (0, .ref b)]) : W p l e room_1 s m #[Value.ref b] below meth c H locs 13 347 Q (F0 m 353 ls []) := by
  obtain ⟨hx, hb, hr, hml, hown, hts, hX, hbl, hlocks, hgv⟩ := C0
  have htsA : ∀ w ∈ lw_all, w.before #[Value.ref b] s = true := fun w h => hts w (lw_all_tbl h)
  have hbA : ¬ lA s b := Nat.not_le.mpr hbl
  refine lv_aload_n hx hb dL_law_353 rfl (lv_at hl 2 rfl) ?_
  refine lc_x0 (n := 0) (rest := []) ⟨hx, hb, hml, hown, htsA⟩ hK0 hS (mX0_overAfter l D ad0 ca0 ar us sv d p0 p1 h0 h1 w0 w1 M hOK ) (lw_V q143 q144 q145 q18 q146) (by decide +kernel) rfl rfl ⟨Nat.le_of_ble_eq_true rfl, Nat.le_of_ble_eq_true rfl⟩ ⟨Nat.le_of_ble_eq_true rfl, Nat.le_of_ble_eq_true rfl⟩ rfl hl.1 rfl (Nat.le_of_ble_eq_true rfl) dL_law_354 (fun r u H locs hp0 hS => ?_)
  refine lv_aload_n hx hb dL_law_357 rfl (lv_at hl 1 rfl) ?_
  refine lc_x1 (n := 0) (rest := [.int r]) ⟨hx, hb, hml, hown, htsA⟩ hK1 hS (mX1_overAfter l D ad1 ca1 M bf d q0_ q1_ q2_ q3_ q4_ q5_ hOK.2.1 hOK.1 ) (lw_V q254 q255 q256 q19 q257) (by decide +kernel) rfl rfl ⟨Nat.le_of_ble_eq_true rfl, Nat.le_of_ble_eq_true rfl⟩ ⟨Nat.le_of_ble_eq_true rfl, Nat.le_of_ble_eq_true rfl⟩ rfl hl.1 rfl (Nat.le_of_ble_eq_true rfl) dL_law_358 (fun r1 u1 H locs hp1 hS => ?_)
  obtain ⟨⟨⟨a0, a1, a2, a3, a4, a5⟩, rfl⟩, hr0⟩ := hp0
  obtain ⟨⟨⟨b0, b1, b2, b3, b4, b5⟩, rfl⟩, hr1⟩ := hp1
  refine lv_icmp_eq (tgt := 379) hx hb dL_law_361 (by decide) (fun _ => ?_) (fun hne => absurd (aOver_un hr0 hr1) hne)
  exact hk M ar us sv bf d a0 a1 a2 a3 a4 a5 b0 b1 b2 b3 b4 b5 hOK _ _ hS ls hl
set_option maxHeartbeats 4000000 in
set_option maxRecDepth 100000 in
theorem law_op12 {p : Program} {l : Launch} {e : Env} {s : State} {m : MethodId} {below : List Frame} {meth : Method} {c : Code} {b L : Nat} {xs : Nat → Int32} {D : va_G} {ad0 ad1 : Nat → Nat} {ca0 ca1 : Nat → ClassId} {Q : State → Prop} (hL : L ≤ 256) (C0 : lw_At p s m meth c b L xs) (hK0 : va_K D vwCl (gt ca0) s) (hK1 : va_K D vwCl (mt ca1) s) (i : Nat) (hi : i + 4 ≤ L) (hk : ∀ (M ar us sv bf : Nat → Nat) (d p0 p1 h0 h1 w0 w1 q0_ q1_ q2_ q3_ q4_ q5_ : Nat), gOK M d ar us sv → ∀ (H : Heap) (locs : List Loc), lS D ad0 ca0 ad1 ca1 s (ar, us, sv, d, p0, p1, h0, h1, w0, w1) (M, bf, d, q0_, q1_, q2_, q3_, q4_, q5_) H locs → ∀ ls : Array Slot, lv_has ls 4 [(3, .int (nI i)), (2, .ref (ad1 0)), (1, .ref (ad0 0)), (0, .ref b)] → W p l e room_1 s m #[Value.ref b] below meth c H locs 13 347 Q (F0 m 379 ls [])) (M ar us sv bf : Nat → Nat) (d p0 p1 h0 h1 w0 w1 q0_ q1_ q2_ q3_ q4_ q5_ : Nat) (hOK : gOK M d ar us sv) (H : Heap) (locs : List Loc) (hS : lS D ad0 ca0 ad1 ca1 s (ar, us, sv, d, p0, p1, h0, h1, w0, w1) (M, bf, d, q0_, q1_, q2_, q3_, q4_, q5_) H locs) (ls : Array Slot) (hl : lv_has ls 4 [(3, .int (nI i)), (2, .ref (ad1 0)), (1, .ref (ad0 0)), (0, .ref b)]) : W p l e room_1 s m #[Value.ref b] below meth c H locs 13 347 Q (F0 m 366 ls []) := by
  obtain ⟨hx, hb, hr, hml, hown, hts, hX, hbl, hlocks, hgv⟩ := C0
  have htsA : ∀ w ∈ lw_all, w.before #[Value.ref b] s = true := fun w h => hts w (lw_all_tbl h)
  have hbA : ¬ lA s b := Nat.not_le.mpr hbl
  refine lv_aload_n hx hb dL_law_366 rfl (lv_at hl 2 rfl) ?_
  refine lc_x0 (n := 0) (rest := []) ⟨hx, hb, hml, hown, htsA⟩ hK0 hS (mX0_settled l D ad0 ca0 ar us sv d p0 p1 h0 h1 w0 w1 M hOK ) (lw_V q147 q148 q149 q18 q150) (by decide +kernel) rfl rfl ⟨Nat.le_of_ble_eq_true rfl, Nat.le_of_ble_eq_true rfl⟩ ⟨Nat.le_of_ble_eq_true rfl, Nat.le_of_ble_eq_true rfl⟩ rfl hl.1 rfl (Nat.le_of_ble_eq_true rfl) dL_law_367 (fun r u H locs hp0 hS => ?_)
  refine lv_aload_n hx hb dL_law_370 rfl (lv_at hl 1 rfl) ?_
  refine lc_x1 (n := 0) (rest := [.int r]) ⟨hx, hb, hml, hown, htsA⟩ hK1 hS (mX1_settled l D ad1 ca1 M bf d q0_ q1_ q2_ q3_ q4_ q5_ hOK.2.1 hOK.1 ) (lw_V q258 q259 q260 q19 q261) (by decide +kernel) rfl rfl ⟨Nat.le_of_ble_eq_true rfl, Nat.le_of_ble_eq_true rfl⟩ ⟨Nat.le_of_ble_eq_true rfl, Nat.le_of_ble_eq_true rfl⟩ rfl hl.1 rfl (Nat.le_of_ble_eq_true rfl) dL_law_371 (fun r1 u1 H locs hp1 hS => ?_)
  obtain ⟨⟨⟨a0, a1, a2, a3, a4, a5⟩, rfl⟩, hr0⟩ := hp0
  obtain ⟨⟨⟨b0, b1, b2, b3, b4, b5⟩, rfl⟩, hr1⟩ := hp1
  refine lv_icmp_eq (tgt := 379) hx hb dL_law_374 (by decide) (fun _ => ?_) (fun hne => absurd (aSet_un hr0 hr1) hne)
  exact hk M ar us sv bf d a0 a1 a2 a3 a4 a5 b0 b1 b2 b3 b4 b5 hOK _ _ hS ls hl
set_option maxHeartbeats 4000000 in
set_option maxRecDepth 100000 in
theorem law_loop {p : Program} {l : Launch} {e : Env} {s : State} {m : MethodId} {below : List Frame} {meth : Method} {c : Code} {b L : Nat} {xs : Nat → Int32} {D : va_G} {ad0 ad1 : Nat → Nat} {ca0 ca1 : Nat → ClassId} (hL : L ≤ 256) (C0 : lw_At p s m meth c b L xs) (hK0 : va_K D vwCl (gt ca0) s) (hK1 : va_K D vwCl (mt ca1) s) : ∀ (n i : Nat), i ≤ L → L + 1 ≤ i + n → ∀ (M ar us sv bf : Nat → Nat) (d p0 p1 h0 h1 w0 w1 q0_ q1_ q2_ q3_ q4_ q5_ : Nat), gOK M d ar us sv → ∀ (H : Heap) (locs : List Loc), lS D ad0 ca0 ad1 ca1 s (ar, us, sv, d, p0, p1, h0, h1, w0, w1) (M, bf, d, q0_, q1_, q2_, q3_, q4_, q5_) H locs → ∀ ls : Array Slot, lv_has ls 4 [(3, .int (nI i)), (2, .ref (ad1 0)), (1, .ref (ad0 0)), (0, .ref b)] → W p l e room_1 s m #[Value.ref b] below meth c H locs 13 347 (lw_Z below #[Value.ref b] s) (F0 m 18 ls []) := by
  obtain ⟨hx, hb, hr, hml, hown, hts, hX, hbl, hlocks, hgv⟩ := id C0
  have hbA : ¬ lA s b := Nat.not_le.mpr hbl
  intro n
  induction n with
  | zero =>
    intro i h1 h2
    exact absurd h2 (by omega)
  | succ n ih =>
    intro i hi hin M ar us sv bf d p0 p1 h0 h1 w0 w1 q0_ q1_ q2_ q3_ q4_ q5_ hOK H locs hS ls hl
    have K379 : i + 4 ≤ L → ∀ (M ar us sv bf : Nat → Nat) (d p0 p1 h0 h1 w0 w1 q0_ q1_ q2_ q3_ q4_ q5_ : Nat), gOK M d ar us sv → ∀ (H : Heap) (locs : List Loc), lS D ad0 ca0 ad1 ca1 s (ar, us, sv, d, p0, p1, h0, h1, w0, w1) (M, bf, d, q0_, q1_, q2_, q3_, q4_, q5_) H locs → ∀ ls : Array Slot, lv_has ls 4 [(3, .int (nI i)), (2, .ref (ad1 0)), (1, .ref (ad0 0)), (0, .ref b)] → W p l e room_1 s m #[Value.ref b] below meth c H locs 13 347 (lw_Z below #[Value.ref b] s) (F0 m 379 ls []) := by
      intro h4 M ar us sv bf d p0 p1 h0 h1 w0 w1 q0_ q1_ q2_ q3_ q4_ q5_ hOK H locs hS ls hl
      refine lv_iinc (v := nI (i + 4)) (lv' := [(3, .int (nI (i + 4))), (2, .ref (ad1 0)), (1, .ref (ad0 0)), (0, .ref b)]) hx hb dL_law_379 hl (k := 0) rfl (nI_add i 4) (by decide) rfl (fun ls hl => ?_)
      refine lv_goto (tgt := 18) hx hb dL_law_382 (by decide) ?_
      exact ih (i + 4) (by omega) (by omega) M ar us sv bf d p0 p1 h0 h1 w0 w1 q0_ q1_ q2_ q3_ q4_ q5_ hOK _ _ hS ls hl
    refine lv_iload_n hx hb dL_law_18 rfl (lv_at hl 0 rfl) ?_
    refine lv_aload_n hx hb dL_law_19 rfl (lv_at hl 3 rfl) ?_
    refine va_slen hx hb hX hbl hbA hS.2.2 dL_law_20 ?_
    refine lv_iconst (v := nI 4) hx hb dL_law_21 (by decide) ?_
    refine lv_isub hx hb dL_law_22 ?_
    refine lv_icmp_gt (tgt := 385) hx hb dL_law_23 (by decide) (fun hgt => ?_) (fun hgt => ?_)
    · refine lv_iconst (v := 1) hx hb dL_law_385 (by decide) ?_
      refine va_forget (fun q hq => hS.2.2.2.2 q hq) ?_
      refine W.widen (k := 600000) (n := 7290000) (by decide) (by decide) ?_
      exact lw_ret hx hb hr hlocks dL_law_386
    · have h4 : i + 4 ≤ L := by
        have h5 : ¬ nI L - nI 4 < nI i := hgt
        rw [head_gt hi hL] at h5
        omega
      refine lv_aload_n hx hb dL_law_26 rfl (lv_at hl 3 rfl) ?_
      refine lv_iload_n hx hb dL_law_27 rfl (lv_at hl 0 rfl) ?_
      refine va_sld hx hb hX hbl hbA hS.2.2 (vp_in_nI (by omega) (by omega)) dL_law_28 ?_
      refine lv_bipush (v := 15) hx hb dL_law_29 (by decide) ?_
      refine lv_iand hx hb dL_law_31 ?_
      obtain ⟨j, hj, ej⟩ := pk_andE (xs (nI i).toNatClampNeg) (m := 15) 4 (by decide)
      refine i_as _ ej ?_
      rcases (show j = 0 ∨ j = 1 ∨ j = 2 ∨ j = 3 ∨ j = 4 ∨ j = 5 ∨ j = 6 ∨ j = 7 ∨ j = 8 ∨ j = 9 ∨ j = 10 ∨ j = 11 ∨ j = 12 ∨ j = 13 ∨ j = 14 ∨ j = 15 by omega) with rfl | rfl | rfl | rfl | rfl | rfl | rfl | rfl | rfl | rfl | rfl | rfl | rfl | rfl | rfl | rfl
      · refine lv_tableIn (tgt := 100) (off := 68) hx hb dL_law_32 (by decide) (by decide) (by decide) (by decide) ?_
        exact law_op0 hL C0 hK0 hK1 i h4 (K379 h4) M ar us sv bf d p0 p1 h0 h1 w0 w1 q0_ q1_ q2_ q3_ q4_ q5_ hOK _ _ hS ls hl
      · refine lv_tableIn (tgt := 143) (off := 111) hx hb dL_law_32 (by decide) (by decide) (by decide) (by decide) ?_
        exact law_op1 hL C0 hK0 hK1 i h4 (K379 h4) M ar us sv bf d p0 p1 h0 h1 w0 w1 q0_ q1_ q2_ q3_ q4_ q5_ hOK _ _ hS ls hl
      · refine lv_tableIn (tgt := 156) (off := 124) hx hb dL_law_32 (by decide) (by decide) (by decide) (by decide) ?_
        exact law_op2 hL C0 hK0 hK1 i h4 (K379 h4) M ar us sv bf d p0 p1 h0 h1 w0 w1 q0_ q1_ q2_ q3_ q4_ q5_ hOK _ _ hS ls hl
      · refine lv_tableIn (tgt := 169) (off := 137) hx hb dL_law_32 (by decide) (by decide) (by decide) (by decide) ?_
        exact law_op3 hL C0 hK0 hK1 i h4 (K379 h4) M ar us sv bf d p0 p1 h0 h1 w0 w1 q0_ q1_ q2_ q3_ q4_ q5_ hOK _ _ hS ls hl
      · refine lv_tableIn (tgt := 182) (off := 150) hx hb dL_law_32 (by decide) (by decide) (by decide) (by decide) ?_
        exact law_op4 hL C0 hK0 hK1 i h4 (K379 h4) M ar us sv bf d p0 p1 h0 h1 w0 w1 q0_ q1_ q2_ q3_ q4_ q5_ hOK _ _ hS ls hl
      · refine lv_tableIn (tgt := 205) (off := 173) hx hb dL_law_32 (by decide) (by decide) (by decide) (by decide) ?_
        exact law_op5 hL C0 hK0 hK1 i h4 (K379 h4) M ar us sv bf d p0 p1 h0 h1 w0 w1 q0_ q1_ q2_ q3_ q4_ q5_ hOK _ _ hS ls hl
      · refine lv_tableIn (tgt := 228) (off := 196) hx hb dL_law_32 (by decide) (by decide) (by decide) (by decide) ?_
        exact law_op6 hL C0 hK0 hK1 i h4 (K379 h4) M ar us sv bf d p0 p1 h0 h1 w0 w1 q0_ q1_ q2_ q3_ q4_ q5_ hOK _ _ hS ls hl
      · refine lv_tableIn (tgt := 251) (off := 219) hx hb dL_law_32 (by decide) (by decide) (by decide) (by decide) ?_
        exact law_op7 hL C0 hK0 hK1 i h4 (K379 h4) M ar us sv bf d p0 p1 h0 h1 w0 w1 q0_ q1_ q2_ q3_ q4_ q5_ hOK _ _ hS ls hl
      · refine lv_tableIn (tgt := 274) (off := 242) hx hb dL_law_32 (by decide) (by decide) (by decide) (by decide) ?_
        exact law_op8 hL C0 hK0 hK1 i h4 (K379 h4) M ar us sv bf d p0 p1 h0 h1 w0 w1 q0_ q1_ q2_ q3_ q4_ q5_ hOK _ _ hS ls hl
      · refine lv_tableIn (tgt := 307) (off := 275) hx hb dL_law_32 (by decide) (by decide) (by decide) (by decide) ?_
        exact law_op9 hL C0 hK0 hK1 i h4 (K379 h4) M ar us sv bf d p0 p1 h0 h1 w0 w1 q0_ q1_ q2_ q3_ q4_ q5_ hOK _ _ hS ls hl
      · refine lv_tableIn (tgt := 330) (off := 298) hx hb dL_law_32 (by decide) (by decide) (by decide) (by decide) ?_
        exact law_op10 hL C0 hK0 hK1 i h4 (K379 h4) M ar us sv bf d p0 p1 h0 h1 w0 w1 q0_ q1_ q2_ q3_ q4_ q5_ hOK _ _ hS ls hl
      · refine lv_tableIn (tgt := 353) (off := 321) hx hb dL_law_32 (by decide) (by decide) (by decide) (by decide) ?_
        exact law_op11 hL C0 hK0 hK1 i h4 (K379 h4) M ar us sv bf d p0 p1 h0 h1 w0 w1 q0_ q1_ q2_ q3_ q4_ q5_ hOK _ _ hS ls hl
      · refine lv_tableIn (tgt := 366) (off := 334) hx hb dL_law_32 (by decide) (by decide) (by decide) (by decide) ?_
        exact law_op12 hL C0 hK0 hK1 i h4 (K379 h4) M ar us sv bf d p0 p1 h0 h1 w0 w1 q0_ q1_ q2_ q3_ q4_ q5_ hOK _ _ hS ls hl
      · refine lv_tableOut (tgt := 379) hx hb dL_law_32 (by decide) (by decide) ?_
        exact K379 h4 M ar us sv bf d p0 p1 h0 h1 w0 w1 q0_ q1_ q2_ q3_ q4_ q5_ hOK _ _ hS ls hl
      · refine lv_tableOut (tgt := 379) hx hb dL_law_32 (by decide) (by decide) ?_
        exact K379 h4 M ar us sv bf d p0 p1 h0 h1 w0 w1 q0_ q1_ q2_ q3_ q4_ q5_ hOK _ _ hS ls hl
      · refine lv_tableOut (tgt := 379) hx hb dL_law_32 (by decide) (by decide) ?_
        exact K379 h4 M ar us sv bf d p0 p1 h0 h1 w0 w1 q0_ q1_ q2_ q3_ q4_ q5_ hOK _ _ hS ls hl
end
section
/-! the law from its entry, and the claim -/
set_option maxHeartbeats 4000000 in
set_option maxRecDepth 100000 in
theorem whole_start {p : Program} {e : Env} {s : State} {m : MethodId} {below : List Frame} {meth : Method} {c : Code} (l : Launch) {b L : Nat} {xs : Nat → Int32} (hL : L ≤ 256) (C0 : lw_At p s m meth c b L xs) : W p l e room_1 s m #[Value.ref b] below meth c s.heap [] 0 0 (lw_Z below #[Value.ref b] s) (entryFrame m ([Value.ref b] : List Value).toArray 4) := by
  obtain ⟨hx, hb, hr, hml, hown, hts0, hX, hbl, hlocks, hgv⟩ := id C0
  have hts : ∀ w ∈ lw_all, w.before #[Value.ref b] s = true := fun w h => hts0 w (lw_all_tbl h)
  have hA : ∀ q : Nat, s.heap.size ≤ q → lA s q := fun _ h => h
  obtain ⟨c0, iS0, hKn0⟩ := u_known (C := RX0) (T := TX0) (N := 7) (n := 7) hts in_X0 (hts _ q21)
  obtain ⟨c1, iS1, hKn1⟩ := u_known (C := RX1) (T := TX1) (N := 6) (n := 6) hts in_X1 (hts _ q153)
  obtain ⟨D, hKc⟩ : ∃ D : va_G, ∀ (k : Nat) (q : vw_C), vwCl[k]? = some q → u_Kn s q.1 q.2.1 q.2.2 (D.1 k) (D.2 k) := by
    refine ⟨(fun k => if k = 0 then c0 else c1, fun k => if k = 0 then iS0 else iS1), ?_⟩
    intro k q hq
    match k, hq with
    | 0, hq => cases hq; exact hKn0
    | 1, hq => cases hq; exact hKn1
    | k + 2, hq => simp [vwCl] at hq
  have hS : va_S (lA s) s.heap s.heap [] := va_S.rf
  have hK : va_K D vwCl [] s := ⟨hKc, fun k q h => by simp at h⟩
  have hP : va_P D vwCl [] s.heap := fun k q h => by simp at h
  have hD : va_D (lA s) [] := ⟨fun i j p q h => by simp at h, fun k q h => by simp at h⟩
  have hl := lv_entry ([.ref b]) (n := 4) (Nat.le_of_ble_eq_true rfl)
  rw [lg_entry_eq]
  generalize (lg_sl ([.ref b]) ++ List.replicate (4 - (lg_sl ([.ref b])).length) Slot.unset).toArray = ls at hl ⊢
  have hl : lv_has ls 4 [(0, .ref b)] := hl
  refine va_new (ci := 0) (fs := [.null, .null, .null, .int (nI 0), .null, .null, .null]) (C := RX0) (T := TX0) (N := 7) hx hb hts in_X0 tyX0 tyX0_ok hown (hts _ q20) (hts _ q21) (hts _ q18) hK hP hD hS hA rfl (fun j hj => by rcases (show j = 0 ∨ j = 1 ∨ j = 2 ∨ j = 3 ∨ j = 4 ∨ j = 5 ∨ j = 6 by omega) with rfl | rfl | rfl | rfl | rfl | rfl | rfl <;> rfl) (Nat.le_of_ble_eq_true rfl) (Nat.le_of_ble_eq_true rfl) dL_law_0 (fun o H hP hD hS => ?_)
  refine W.cs (cells' := 1) (slots' := 7) rfl rfl ?_
  have hP : va_P D vwCl [(o, .inr (0, [.null, .null, .null, .int (nI 0), .null, .null, .null]))] H := hP
  have hD : va_D (lA s) [(o, .inr (0, [.null, .null, .null, .int (nI 0), .null, .null, .null]))] := hD
  refine lv_dup hx hb dL_law_3 rfl ?_
  have hFc := va_free (wc := [(o, .inr (0, [.null, .null, .null, .int (nI 0), .null, .null, .null]))]) hD hS hA [0] rfl
  refine va_callv (va_runI (As := []) (rest := [.ref o]) ⟨hx, hb, hml, hown, hts⟩ (mX0_init l D o H.size) (cwI 0 hts (lw_meth q24) rfl rfl rfl (hts _ q18) (hts _ q22) (hts _ q23) rfl (by decide +kernel) ⟨Nat.le_of_ble_eq_true rfl, Nat.le_of_ble_eq_true rfl⟩) ⟨fun a U g mk q => by obtain ⟨q0, q1, qP, qK, qD⟩ := q; exact ⟨q0, q1, qP, va_K.moved (u := U) (U := U.calling g mk a) (Vm.Alike.refl U.vm) qK, qD⟩, fun U hU hW => ⟨rfl, by rw [hU], by rw [hU]; exact hP, va_K.moved hW.alike hK, hD.weaken (fun _ _ _ _ => trivial)⟩⟩ rfl rfl hl.1 rfl (lv_room (Nat.le_of_ble_eq_true rfl)) dL_law_4 ⟨Nat.le_of_ble_eq_true rfl, Nat.le_of_ble_eq_true rfl⟩) hS (fun q _ h => hFc q h) hFc (fun u t H1 locs ht hvm hw hB hz1 hk1 hS => ?_)
  obtain ⟨ad0, ca0, g0⟩ := u
  obtain ⟨ho, ar, us, sv, ⟨p0, p1, h0, h1, w0, w1⟩, hg0, hOK⟩ := hw
  obtain ⟨hP1, hK1, hD1⟩ := hB
  dsimp only at ho hg0 hP1 hK1 hD1
  subst hg0
  subst ho
  rw [ht] at hP1
  have hK0 := va_K.moved hvm.symm hK1
  have hP := hP1
  have hD := hD1.weaken (fun k q _ h => hFc q.1 h)
  generalize H1 = H at hP hS ⊢
  refine W.cs (cells' := 7) (slots' := 214) rfl rfl ?_
  refine lv_astore_n (lv' := [(1, .ref (ad0 0)), (0, .ref b)]) hx hb dL_law_7 rfl hl (by decide) rfl (fun ls hl => ?_)
  refine va_new (ci := 1) (fs := [.null, .int (nI 0), .null, .null, .null, .null]) (C := RX1) (T := TX1) (N := 6) hx hb hts in_X1 tyX1 tyX1_ok hown (hts _ q152) (hts _ q153) (hts _ q19) hK hP hD hS hA rfl (fun j hj => by rcases (show j = 0 ∨ j = 1 ∨ j = 2 ∨ j = 3 ∨ j = 4 ∨ j = 5 by omega) with rfl | rfl | rfl | rfl | rfl | rfl <;> rfl) (Nat.le_of_ble_eq_true rfl) (Nat.le_of_ble_eq_true rfl) dL_law_8 (fun o H hP hD hS => ?_)
  refine W.cs (cells' := 8) (slots' := 220) rfl rfl ?_
  refine lv_dup hx hb dL_law_11 rfl ?_
  have hPc := hP.sub (ws' := [(o, .inr (1, [.null, .int (nI 0), .null, .null, .null, .null]))]) [7] rfl
  have hDc := hD.sub (ws' := [(o, .inr (1, [.null, .int (nI 0), .null, .null, .null, .null]))]) [7] (by decide) rfl
  have hFc := va_free (wc := [(o, .inr (1, [.null, .int (nI 0), .null, .null, .null, .null]))]) hD hS hA [7] rfl
  refine va_callv (va_runI (As := []) (rest := [.ref o]) ⟨hx, hb, hml, hown, hts⟩ (mX1_init l D o H.size) (cwI 0 hts (lw_meth q156) rfl rfl rfl (hts _ q19) (hts _ q154) (hts _ q155) rfl (by decide +kernel) ⟨Nat.le_of_ble_eq_true rfl, Nat.le_of_ble_eq_true rfl⟩) ⟨fun a U g mk q => by obtain ⟨q0, q1, qP, qK, qD⟩ := q; exact ⟨q0, q1, qP, va_K.moved (u := U) (U := U.calling g mk a) (Vm.Alike.refl U.vm) qK, qD⟩, fun U hU hW => ⟨rfl, by rw [hU], by rw [hU]; exact hPc, va_K.moved hW.alike hK, hDc.weaken (fun _ _ _ _ => trivial)⟩⟩ rfl rfl hl.1 rfl (lv_room (Nat.le_of_ble_eq_true rfl)) dL_law_12 ⟨Nat.le_of_ble_eq_true rfl, Nat.le_of_ble_eq_true rfl⟩) hS (fun q _ h => hFc q h) hFc (fun u t H1 locs ht hvm hw hB hz1 hk1 hS => ?_)
  obtain ⟨ad1, ca1, g1⟩ := u
  obtain ⟨ho, bf, ⟨b0, b1, b2, b3, b4, b5⟩, hg1⟩ := hw
  obtain ⟨hP1, hK1, hD1⟩ := hB
  dsimp only at ho hg1 hP1 hK1 hD1
  subst hg1
  subst ho
  rw [ht] at hP1
  have hK1 := va_K.moved hvm.symm hK1
  obtain ⟨hP, hD⟩ := va_join (wr := gw ad0 ca0 (ar, us, sv, 0, p0, p1, h0, h1, w0, w1)) (w1 := mw ad1 ca1 (fun _ => 0, bf, 0, b0, b1, b2, b3, b4, b5)) hP hD [7] [0, 1, 2, 3, 4, 5, 6] rfl rfl (by decide) (by decide) hk1 hFc hP1 hD1
  generalize H1 = H at hP hS ⊢
  refine W.cs (cells' := 13) (slots' := 347) rfl rfl ?_
  refine lv_astore_n (lv' := [(2, .ref (ad1 0)), (1, .ref (ad0 0)), (0, .ref b)]) hx hb dL_law_15 rfl hl (by decide) rfl (fun ls hl => ?_)
  refine lv_iconst (v := nI 0) hx hb dL_law_16 (by decide) ?_
  refine lv_istore_n (lv' := [(3, .int (nI 0)), (2, .ref (ad1 0)), (1, .ref (ad0 0)), (0, .ref b)]) hx hb dL_law_17 rfl hl (by decide) rfl (fun ls hl => ?_)
  exact law_loop hL C0 hK0 hK1 (L + 1) 0 (Nat.zero_le _) (by omega) (fun _ => 0) ar us sv bf 0 p0 p1 h0 h1 w0 w1 b0 b1 b2 b3 b4 b5 hOK _ _ ⟨hP, hD, hS⟩ ls hl
end
section
set_option maxHeartbeats 4000000 in
theorem lw_walk (l : Launch) (b : Addr) (xs : List Int32) : MetFree l x (headSpec (Jvm.Cond.code x code maxLocals ret :: tables_1) room_1) (lw_P b xs) (fun _ _ _ _ _ => True) lw_Q := by
  refine MetFree.of_bodyS (code := code) (maxLocals := maxLocals) (ret := ret) (by decide) ?_ ?_
  · intro args s m h hn
    obtain ⟨meth, c, h1, h2, h3, h4, h5, h6, -, -⟩ := Cond.code_spec hn (atoms_spec (ws := Jvm.Cond.code x code maxLocals ret :: tables_1) h _ List.mem_cons_self)
    exact ⟨meth, c, h1, h2, h3, h4, h5, h6⟩
  · intro p e s m args below meth c s₁ B hml0 hP _
    obtain ⟨rfl, hx, hbd, hgv⟩ := hP
    obtain ⟨scr, harrAt, hlist, hof, hsmall⟩ := hx
    obtain ⟨hcb, hkn, -, -⟩ := State.arrayAt?_spec harrAt
    have hown : s.vm.findClass R_law = some m.cls := findClass_of_methodNamed B.named
    have hts0 : ∀ c ∈ (Jvm.Cond.code x code maxLocals ret :: tables_1), c.before #[Value.ref b] s = true := atoms_spec (ws := Jvm.Cond.code x code maxLocals ret :: tables_1) B.pre
    have hts : ∀ w ∈ lw_tbl, w.before #[Value.ref b] s = true := k2_hts_sels lw_privs (fun w hw => hts0 w (List.mem_cons_of_mem _ hw)) lw_privs_ok
    have hml : c.maxLocals = 4 := B.maxLocals_eq (hts0 _ List.mem_cons_self)
    have X₀ : Stand p l e room_1 s m #[Value.ref b] below meth c s₁ [] 0 0 := Stand.of_body B
    have hh0 : s₁.heap = s.heap := by rw [B.state]; rfl
    have hsz : scr.slots.size = xs.length := by rw [← Array.length_toList, hlist, List.length_map]
    have hval : ∀ j : Nat, j < xs.length → scr.slots[j]? = some (.int (xs.getD j 0)) := fun j hj => by
      rw [← Array.getElem?_toList, hlist]
      simp [hj]
    have hbl : b < s.heap.size := (Array.getElem?_eq_some_iff.mp hcb).1
    have hX : va_X b xs.length (fun j => xs.getD j 0) s s.heap := ⟨scr, hcb, hof, hkn, hsz, hval⟩
    have K : W p l e room_1 s m #[Value.ref b] below meth c s₁.heap [] 0 0 (lw_Z below #[Value.ref b] s) (entryFrame m ([Value.ref b] : List Value).toArray 4) := by
      rw [hh0]
      exact whole_start l hbd ⟨B.exec, B.bytes, B.returns, hml, hown, hts, hX, hbl, B.notSynchronized, hgv⟩
    obtain ⟨t, a1, o, b1, b2, b3⟩ := K s₁ rfl X₀
    exact ⟨t, o, a1, b1, b2, b3⟩
theorem lw_pre_spec {args : Array Value} {s : State} (h : (Jvm.Cond.and given_1 narrow_1).before args s = true) (hr : rest_1_c.before args s = true) : ∃ (b : Addr) (xs : List Int32), lw_P b xs args s := by
  have hs := flat_of_before _ h
  have hq := flat_of_before _ hr
  have hc : (Cond.count 1).before args s = true := hs _ (by decide +kernel)
  have harr : (Cond.arrayOf (.arg 0) .int).before args s = true := hs _ (by decide +kernel)
  have hle : (Cond.le (.length (.arg 0)) (.int 256)).before args s = true := hs _ (by decide +kernel)
  have hlen : (Cond.isInt (.length (.arg 0))).before args s = true := hq _ (by decide +kernel)
  have hall : (Cond.all (.arg 0) (.isInt (.elem (.arg 0) (.index 0)))).before args s = true := hq _ (by decide +kernel)
  obtain ⟨b, xs, hb, hx⟩ := State.ints_of_pre rfl harr hlen hall
  have hsm : xs.length < 2 ^ 31 := hx.choose_spec.2.2.2
  have hev : (Term.length (.arg 0)).eval args s none [] s = some (.int xs.length.toInt32) := hx.length_eval hb
  have hv := Cond.le_ints hev (show (Term.int 256).eval args s none [] s = some (.int 256) from rfl)
  have hd : xs.length.toInt32 ≤ 256 := by
    simpa [Cond.before, Cond.holds, hv] using hle
  have hN : xs.length ≤ 256 := (Int32.ofNat_le_ofNat hsm (by decide)).mp (show Int32.ofNat xs.length ≤ Int32.ofNat 256 from hd)
  exact ⟨b, xs, Cond.one_arg hc (show args[0]? = some (.ref b) from hb), hx, hN, h⟩
theorem lw_comes (l : Launch) : Comes l x (Jvm.Cond.code x code maxLocals ret :: tables_1) room_1 (fun tb e args s => Calls_1 tb e args s ∧ rest_1 tb e args s ∧ Pre_1 tb e args s)
    (fun _ _ args s o t => lw_Q args s o t) := by
  intro p e ha hc hk s m args below hf hfit hheap happ hpre
  obtain ⟨b, xs, hP⟩ := lw_pre_spec hpre.2.2 hpre.2.1
  obtain ⟨k, o, h1, h2, h3, hQ⟩ := lw_walk l b xs p e ha hc hk s m args below hf ((Spec.applies_iff_loose hf).mp happ).1 hP trivial
  exact ⟨k, o, h1, h2, h3, hQ⟩
theorem lw_frame {s t : State} {o : Outcome} {args : Array Value} (h : Framed s o t [] 600000 7290000) :
    Framed s o t (fieldLocs frame_1_writes args s ++ arrayLocs frame_1_arrays args s ++ staticLocs frame_1_statics s) 600000 7290000 := h
theorem lw_limb (L : Cond) (hL : ∀ (args : Array Value) (s t : State), L.after args s (.returned (some (.int 1))) t = true) :
    ArmFor flags0 classFile x code maxLocals ret World_1 tables_1 room_1 Calls_1 rest_1 Pre_1
      (fun tb e a s o t => postC L tb e a s o t ∧ Framed s o t (fieldLocs frame_1_writes a s ++ arrayLocs frame_1_arrays a s ++ staticLocs frame_1_statics s) 600000 7290000) := by
  intro l _ _ _ p e ha hc hk s m args below hf hfit hheap happ hpre
  obtain ⟨k, o, h1, h2, h3, rfl, hF⟩ := lw_comes l p e ha hc hk s m args below hf hfit hheap happ hpre
  exact ⟨k, _, h1, h2, h3, hL args s _, lw_frame hF⟩
theorem i_vc : Claimed_1_1 ∧ Claimed_1_2 := ⟨lw_limb limb_1_1 (fun args s t => by simp [limb_1_1, Cond.after, Cond.holds, Cond.value]), lw_limb limb_1_2 (fun args s t => Cond.after_iff.mpr (by
  first | (rw [show limb_1_2 = Cond.eq .result (.int 1) from rfl, Cond.eq_ints (x := 1) (y := 1) rfl rfl]; simp; done) | (simp [limb_1_2, Cond.value, Term.eval]; done)))⟩
end
