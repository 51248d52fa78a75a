section
-- ===== PART A: goes FIRST, ahead of the names: the tables' words, and 'selects' of the private methods out of them =====
/-- a private method of a class that the tables say can be made, by its rows of tables_1 -/
def lw_okq (q : MethodName × Nat) : Prop := (q.1.cls ≠ "java/lang/invoke/MethodHandle" ∧ q.1.cls ≠ "java/lang/invoke/VarHandle") ∧ Cond.instantiable q.1.cls q.2 ∈ tables_1 ∧ Cond.privateMethod q.1 ∈ tables_1 ∧ Cond.instanceMethod q.1 ∈ tables_1
set_option maxRecDepth 100000
theorem lw_t1 {w : Cond} (h : w ∈ tables_1_1) : w ∈ tables_1 := List.mem_append_left _ h
theorem lw_t2 {w : Cond} (h : w ∈ tables_1_2) : w ∈ tables_1 := List.mem_append_right _ h
theorem lw_p0 : lw_okq (⟨"CoroutineFrames", "goOn", "(II)I"⟩, 17) := ⟨⟨by decide +kernel, by decide +kernel⟩, lw_t1 (List.mem_of_getElem? (i := 4) rfl), lw_t1 (List.mem_of_getElem? (i := 80) rfl), lw_t1 (List.mem_of_getElem? (i := 81) rfl)⟩
theorem lw_p1 : lw_okq (⟨"CoroutineFrames", "analyse", "()V"⟩, 17) := ⟨⟨by decide +kernel, by decide +kernel⟩, lw_t1 (List.mem_of_getElem? (i := 4) rfl), lw_t1 (List.mem_of_getElem? (i := 84) rfl), lw_t1 (List.mem_of_getElem? (i := 85) rfl)⟩
theorem lw_p2 : lw_okq (⟨"CoroutineFrames", "analyseAt", "(II)Z"⟩, 17) := ⟨⟨by decide +kernel, by decide +kernel⟩, lw_t1 (List.mem_of_getElem? (i := 4) rfl), lw_t1 (List.mem_of_getElem? (i := 88) rfl), lw_t1 (List.mem_of_getElem? (i := 89) rfl)⟩
theorem lw_p3 : lw_okq (⟨"CoroutineFrames", "readsBefore", "(II)I"⟩, 17) := ⟨⟨by decide +kernel, by decide +kernel⟩, lw_t1 (List.mem_of_getElem? (i := 4) rfl), lw_t1 (List.mem_of_getElem? (i := 92) rfl), lw_t1 (List.mem_of_getElem? (i := 93) rfl)⟩
theorem lw_p4 : lw_okq (⟨"CoroutineFrames", "readsAt", "(II)I"⟩, 17) := ⟨⟨by decide +kernel, by decide +kernel⟩, lw_t1 (List.mem_of_getElem? (i := 4) rfl), lw_t1 (List.mem_of_getElem? (i := 96) rfl), lw_t1 (List.mem_of_getElem? (i := 97) rfl)⟩
theorem lw_p5 : lw_okq (⟨"CoroutineFrames", "unpack", "(II)V"⟩, 17) := ⟨⟨by decide +kernel, by decide +kernel⟩, lw_t1 (List.mem_of_getElem? (i := 4) rfl), lw_t1 (List.mem_of_getElem? (i := 100) rfl), lw_t1 (List.mem_of_getElem? (i := 101) rfl)⟩
theorem lw_p6 : lw_okq (⟨"CoroutineFrames", "keptAt", "(II)I"⟩, 17) := ⟨⟨by decide +kernel, by decide +kernel⟩, lw_t1 (List.mem_of_getElem? (i := 4) rfl), lw_t1 (List.mem_of_getElem? (i := 104) rfl), lw_t1 (List.mem_of_getElem? (i := 105) rfl)⟩
theorem lw_p7 : lw_okq (⟨"CoroutineFrames", "carryOn", "(I)V"⟩, 17) := ⟨⟨by decide +kernel, by decide +kernel⟩, lw_t1 (List.mem_of_getElem? (i := 4) rfl), lw_t1 (List.mem_of_getElem? (i := 108) rfl), lw_t1 (List.mem_of_getElem? (i := 109) rfl)⟩
theorem lw_p8 : lw_okq (⟨"CoroutineFrames", "returnAtEnd", "(I)V"⟩, 17) := ⟨⟨by decide +kernel, by decide +kernel⟩, lw_t1 (List.mem_of_getElem? (i := 4) rfl), lw_t1 (List.mem_of_getElem? (i := 112) rfl), lw_t1 (List.mem_of_getElem? (i := 113) rfl)⟩
theorem lw_p9 : lw_okq (⟨"CoroutineFrames", "pastEnd", "()Z"⟩, 17) := ⟨⟨by decide +kernel, by decide +kernel⟩, lw_t1 (List.mem_of_getElem? (i := 4) rfl), lw_t1 (List.mem_of_getElem? (i := 116) rfl), lw_t1 (List.mem_of_getElem? (i := 117) rfl)⟩
theorem lw_p10 : lw_okq (⟨"CoroutineFrames", "giveBack", "(II)V"⟩, 17) := ⟨⟨by decide +kernel, by decide +kernel⟩, lw_t1 (List.mem_of_getElem? (i := 4) rfl), lw_t1 (List.mem_of_getElem? (i := 120) rfl), lw_t1 (List.mem_of_getElem? (i := 121) rfl)⟩
theorem lw_p11 : lw_okq (⟨"CoroutineFrames", "finish", "(III)V"⟩, 17) := ⟨⟨by decide +kernel, by decide +kernel⟩, lw_t1 (List.mem_of_getElem? (i := 4) rfl), lw_t1 (List.mem_of_getElem? (i := 124) rfl), lw_t1 (List.mem_of_getElem? (i := 125) rfl)⟩
theorem lw_p12 : lw_okq (⟨"CoroutineFrames", "perform", "(I)V"⟩, 17) := ⟨⟨by decide +kernel, by decide +kernel⟩, lw_t1 (List.mem_of_getElem? (i := 4) rfl), lw_t1 (List.mem_of_getElem? (i := 128) rfl), lw_t1 (List.mem_of_getElem? (i := 129) rfl)⟩
theorem lw_p13 : lw_okq (⟨"CoroutineFrames", "pack", "(II)V"⟩, 17) := ⟨⟨by decide +kernel, by decide +kernel⟩, lw_t1 (List.mem_of_getElem? (i := 4) rfl), lw_t1 (List.mem_of_getElem? (i := 132) rfl), lw_t1 (List.mem_of_getElem? (i := 133) rfl)⟩
theorem lw_p14 : lw_okq (⟨"CoroutineFrames", "call", "(II)V"⟩, 17) := ⟨⟨by decide +kernel, by decide +kernel⟩, lw_t1 (List.mem_of_getElem? (i := 4) rfl), lw_t1 (List.mem_of_getElem? (i := 136) rfl), lw_t1 (List.mem_of_getElem? (i := 137) rfl)⟩
theorem lw_p15 : lw_okq (⟨"CoroutineFramesModel", "badCo", "(I)Z"⟩, 12) := ⟨⟨by decide +kernel, by decide +kernel⟩, lw_t1 (List.mem_of_getElem? (i := 172) rfl), lw_t1 (List.mem_of_getElem? (i := 223) rfl), lw_t1 (List.mem_of_getElem? (i := 224) rfl)⟩
def lw_privs_1 : List (MethodName × Nat) := [(⟨"CoroutineFrames", "goOn", "(II)I"⟩, 17), (⟨"CoroutineFrames", "analyse", "()V"⟩, 17), (⟨"CoroutineFrames", "analyseAt", "(II)Z"⟩, 17), (⟨"CoroutineFrames", "readsBefore", "(II)I"⟩, 17), (⟨"CoroutineFrames", "readsAt", "(II)I"⟩, 17), (⟨"CoroutineFrames", "unpack", "(II)V"⟩, 17), (⟨"CoroutineFrames", "keptAt", "(II)I"⟩, 17), (⟨"CoroutineFrames", "carryOn", "(I)V"⟩, 17), (⟨"CoroutineFrames", "returnAtEnd", "(I)V"⟩, 17), (⟨"CoroutineFrames", "pastEnd", "()Z"⟩, 17), (⟨"CoroutineFrames", "giveBack", "(II)V"⟩, 17), (⟨"CoroutineFrames", "finish", "(III)V"⟩, 17), (⟨"CoroutineFrames", "perform", "(I)V"⟩, 17), (⟨"CoroutineFrames", "pack", "(II)V"⟩, 17), (⟨"CoroutineFrames", "call", "(II)V"⟩, 17), (⟨"CoroutineFramesModel", "badCo", "(I)Z"⟩, 12)]
theorem lw_r1 : ∀ q ∈ lw_privs_1, lw_okq q := List.forall_mem_cons.mpr ⟨lw_p0, List.forall_mem_cons.mpr ⟨lw_p1, List.forall_mem_cons.mpr ⟨lw_p2, List.forall_mem_cons.mpr ⟨lw_p3, List.forall_mem_cons.mpr ⟨lw_p4, List.forall_mem_cons.mpr ⟨lw_p5, List.forall_mem_cons.mpr ⟨lw_p6, List.forall_mem_cons.mpr ⟨lw_p7, List.forall_mem_cons.mpr ⟨lw_p8, List.forall_mem_cons.mpr ⟨lw_p9, List.forall_mem_cons.mpr ⟨lw_p10, List.forall_mem_cons.mpr ⟨lw_p11, List.forall_mem_cons.mpr ⟨lw_p12, List.forall_mem_cons.mpr ⟨lw_p13, List.forall_mem_cons.mpr ⟨lw_p14, List.forall_mem_cons.mpr ⟨lw_p15, fun _ h => absurd h List.not_mem_nil⟩⟩⟩⟩⟩⟩⟩⟩⟩⟩⟩⟩⟩⟩⟩⟩
theorem lw_p16 : lw_okq (⟨"CoroutineFramesModel", "push", "(III)V"⟩, 12) := ⟨⟨by decide +kernel, by decide +kernel⟩, lw_t1 (List.mem_of_getElem? (i := 172) rfl), lw_t1 (List.mem_of_getElem? (i := 227) rfl), lw_t1 (List.mem_of_getElem? (i := 228) rfl)⟩
theorem lw_p17 : lw_okq (⟨"CoroutineFramesModel", "fallOff", "(I)V"⟩, 12) := ⟨⟨by decide +kernel, by decide +kernel⟩, lw_t1 (List.mem_of_getElem? (i := 172) rfl), lw_t1 (List.mem_of_getElem? (i := 235) rfl), lw_t1 (List.mem_of_getElem? (i := 236) rfl)⟩
theorem lw_p18 : lw_okq (⟨"CoroutineFramesModel", "back", "(II)V"⟩, 12) := ⟨⟨by decide +kernel, by decide +kernel⟩, lw_t1 (List.mem_of_getElem? (i := 172) rfl), lw_t1 (List.mem_of_getElem? (i := 239) rfl), lw_t2 (List.mem_of_getElem? (i := 0) rfl)⟩
theorem lw_p19 : lw_okq (⟨"CoroutineFramesModel", "end", "(III)V"⟩, 12) := ⟨⟨by decide +kernel, by decide +kernel⟩, lw_t1 (List.mem_of_getElem? (i := 172) rfl), lw_t2 (List.mem_of_getElem? (i := 3) rfl), lw_t2 (List.mem_of_getElem? (i := 4) rfl)⟩
theorem lw_p20 : lw_okq (⟨"CoroutineFramesModel", "carryOut", "(I)V"⟩, 12) := ⟨⟨by decide +kernel, by decide +kernel⟩, lw_t1 (List.mem_of_getElem? (i := 172) rfl), lw_t2 (List.mem_of_getElem? (i := 7) rfl), lw_t2 (List.mem_of_getElem? (i := 8) rfl)⟩
def lw_privs_2 : List (MethodName × Nat) := [(⟨"CoroutineFramesModel", "push", "(III)V"⟩, 12), (⟨"CoroutineFramesModel", "fallOff", "(I)V"⟩, 12), (⟨"CoroutineFramesModel", "back", "(II)V"⟩, 12), (⟨"CoroutineFramesModel", "end", "(III)V"⟩, 12), (⟨"CoroutineFramesModel", "carryOut", "(I)V"⟩, 12)]
theorem lw_r2 : ∀ q ∈ lw_privs_2, lw_okq q := List.forall_mem_cons.mpr ⟨lw_p16, List.forall_mem_cons.mpr ⟨lw_p17, List.forall_mem_cons.mpr ⟨lw_p18, List.forall_mem_cons.mpr ⟨lw_p19, List.forall_mem_cons.mpr ⟨lw_p20, fun _ h => absurd h List.not_mem_nil⟩⟩⟩⟩⟩
def lw_privs : List (MethodName × Nat) := lw_privs_1 ++ (lw_privs_2)
def lw_tbl : List Cond := k2_sels lw_privs ++ tables_1
theorem lw_privs_ok : ∀ q ∈ lw_privs, lw_okq q := by
  show ∀ q ∈ lw_privs_1 ++ (lw_privs_2), lw_okq q
  exact List.forall_mem_append.mpr ⟨lw_r1, lw_r2⟩
-- ===== ONE list of words for every method: the tables' words that hold all through a run =====
def lw_all : List Cond := lw_tbl.filter goodWord
/-- a word of the tables by its place: claim/WORDS.tsv -/
theorem lw_w {w : Cond} (i : Nat) (h : lw_tbl[i]? = some w) (g : goodWord w = true) : w ∈ lw_all := List.mem_filter.mpr ⟨List.mem_of_getElem? h, g⟩
theorem lw_all_tbl {w : Cond} (h : w ∈ lw_all) : w ∈ lw_tbl := (List.mem_filter.mp h).1
theorem lw_self : GoodIn lw_all lw_all := fun w h => ⟨h, good_of_word (List.mem_filter.mp h).2⟩
/-- a class's field words, by their places -/
theorem lw_in (ws : List Cond) (ps : List Nat) (hp : ws = ps.filterMap (fun i => lw_tbl[i]?)) (hg : ws.all goodWord = true) : ∀ w ∈ ws, w ∈ lw_all := by
  intro w h
  have h1 := List.all_eq_true.mp hg w h
  rw [hp] at h
  obtain ⟨i, -, hi⟩ := List.mem_filterMap.mp h
  exact lw_w i hi h1
/-- the words of a contract for the method y with code b, L locals, answer r -/
abbrev ws_ (y : MethodName) (b : ByteArray) (L : Nat) (r : Option FieldType) : List Cond := Cond.code y b L r :: lw_all
theorem lw_meth {y : MethodName} {b : ByteArray} {L : Nat} {r : Option FieldType} (h : Cond.code y b L r ∈ lw_all) : GoodIn lw_all (ws_ y b L r) := by
  intro w hw
  rcases List.mem_cons.mp hw with e | e
  · rw [e]
    exact lw_self _ h
  · exact lw_self _ e
theorem lw_app {a c : List Cond} (ha : ∀ w ∈ a, w ∈ lw_all) (hc : GoodIn lw_all c) : GoodIn lw_all (a ++ c) := by
  intro w hw
  rcases List.mem_append.mp hw with e | e
  · exact lw_self w (ha w e)
  · exact hc w e
/-- what a call through an object asks: cwV n hts (lw_V ..) -/
theorem lw_V {own : String} {idx : Nat} {C : String} {y : MethodName} {b : ByteArray} {L : Nat} {r : Option FieldType} (h1 : Cond.methodLink own idx y ∈ lw_all) (h2 : Cond.instanceMethod y ∈ lw_all) (h3 : Cond.selects C y y ∈ lw_all) (h4 : Cond.initialized C ∈ lw_all) (h5 : Cond.code y b L r ∈ lw_all) : GoodIn lw_all (wsV own idx C y (ws_ y b L r)) := by
  refine lw_app ?_ (lw_meth h5)
  intro w hw
  simp only [List.mem_cons, List.not_mem_nil, or_false] at hw
  rcases hw with e | e | e | e
  · rw [e]; exact h1
  · rw [e]; exact h2
  · rw [e]; exact h3
  · rw [e]; exact h4
/-- what a static call asks: va_cwS n hts (lw_S ..) -/
theorem lw_S {own : String} {idx : Nat} {y : MethodName} {b : ByteArray} {L : Nat} {r : Option FieldType} (h1 : Cond.methodLink own idx y ∈ lw_all) (h2 : Cond.static y ∈ lw_all) (h3 : Cond.initialized y.cls ∈ lw_all) (h4 : Cond.code y b L r ∈ lw_all) : GoodIn lw_all (va_wsS own idx y (ws_ y b L r)) := by
  refine lw_app ?_ (lw_meth h4)
  intro w hw
  simp only [List.mem_cons, List.not_mem_nil, or_false] at hw
  rcases hw with e | e | e
  · rw [e]; exact h1
  · rw [e]; exact h2
  · rw [e]; exact h3
/-- the words of a contract for a method WITH HANDLERS (hh: its table) -/
abbrev wsW_ (y : MethodName) (b : ByteArray) (L : Nat) (r : Option FieldType) (hh : List (Nat × Nat × Nat × Nat)) : List Cond := Cond.codeWith y b L r hh :: lw_all
theorem lw_methW {y : MethodName} {b : ByteArray} {L : Nat} {r : Option FieldType} {hh : List (Nat × Nat × Nat × Nat)} (h : Cond.codeWith y b L r hh ∈ lw_all) : GoodIn lw_all (wsW_ y b L r hh) := by
  intro w hw
  rcases List.mem_cons.mp hw with e | e
  · rw [e]
    exact lw_self _ h
  · exact lw_self _ e
/-- any list of words by their places (lw_in), good -/
theorem lw_good {ws : List Cond} (h : ∀ w ∈ ws, w ∈ lw_all) : GoodIn lw_all ws := fun w hw => lw_self w (h w hw)
/-- what a call of a method with handlers asks: vx_cwVW n hts (lw_VW ..), vx_cwSW n hts (lw_SW ..) -/
theorem lw_VW {own : String} {idx : Nat} {C : String} {y : MethodName} {b : ByteArray} {L : Nat} {r : Option FieldType} {hh : List (Nat × Nat × Nat × Nat)} (h1 : Cond.methodLink own idx y ∈ lw_all) (h2 : Cond.instanceMethod y ∈ lw_all) (h3 : Cond.selects C y y ∈ lw_all) (h4 : Cond.initialized C ∈ lw_all) (h5 : Cond.codeWith y b L r hh ∈ lw_all) : GoodIn lw_all (wsV own idx C y (wsW_ y b L r hh)) := by
  refine lw_app ?_ (lw_methW h5)
  intro w hw
  simp only [List.mem_cons, List.not_mem_nil, or_false] at hw
  rcases hw with e | e | e | e
  · rw [e]; exact h1
  · rw [e]; exact h2
  · rw [e]; exact h3
  · rw [e]; exact h4
theorem lw_SW {own : String} {idx : Nat} {y : MethodName} {b : ByteArray} {L : Nat} {r : Option FieldType} {hh : List (Nat × Nat × Nat × Nat)} (h1 : Cond.methodLink own idx y ∈ lw_all) (h2 : Cond.static y ∈ lw_all) (h3 : Cond.initialized y.cls ∈ lw_all) (h4 : Cond.codeWith y b L r hh ∈ lw_all) : GoodIn lw_all (va_wsS own idx y (wsW_ y b L r hh)) := by
  refine lw_app ?_ (lw_methW h4)
  intro w hw
  simp only [List.mem_cons, List.not_mem_nil, or_false] at hw
  rcases hw with e | e | e
  · rw [e]; exact h1
  · rw [e]; exact h2
  · rw [e]; exact h3
/-- a word by its place in its run of the tables -/
theorem lw_at {r : List Cond} (hr : ∀ w ∈ r, w ∈ lw_tbl) {w : Cond} (i : Nat) (h : r[i]? = some w) : w ∈ lw_tbl := hr w (List.mem_of_getElem? h)
theorem lw_g {w : Cond} (h : w ∈ lw_tbl) (g : goodWord w = true) : w ∈ lw_all := List.mem_filter.mpr ⟨h, g⟩
theorem lw_ms : ∀ w ∈ k2_sels lw_privs, w ∈ lw_tbl := fun w h => show w ∈ k2_sels lw_privs ++ tables_1 from List.mem_append_left _ h
theorem lw_m1 : ∀ w ∈ tables_1_1, w ∈ lw_tbl := fun w h => show w ∈ k2_sels lw_privs ++ tables_1 from List.mem_append_right (k2_sels lw_privs) (show w ∈ tables_1 from List.mem_append_left _ h)
theorem lw_m2 : ∀ w ∈ tables_1_2, w ∈ lw_tbl := fun w h => show w ∈ k2_sels lw_privs ++ tables_1 from List.mem_append_right (k2_sels lw_privs) (show w ∈ tables_1 from List.mem_append_right _ h)
theorem qs0 : (Cond.selects "CoroutineFrames" ⟨"CoroutineFrames", "goOn", "(II)I"⟩ ⟨"CoroutineFrames", "goOn", "(II)I"⟩) ∈ lw_all := lw_g (lw_at lw_ms 0 rfl) rfl
theorem qs1 : (Cond.selects "CoroutineFrames" ⟨"CoroutineFrames", "analyse", "()V"⟩ ⟨"CoroutineFrames", "analyse", "()V"⟩) ∈ lw_all := lw_g (lw_at lw_ms 1 rfl) rfl
theorem qs2 : (Cond.selects "CoroutineFrames" ⟨"CoroutineFrames", "analyseAt", "(II)Z"⟩ ⟨"CoroutineFrames", "analyseAt", "(II)Z"⟩) ∈ lw_all := lw_g (lw_at lw_ms 2 rfl) rfl
theorem qs3 : (Cond.selects "CoroutineFrames" ⟨"CoroutineFrames", "readsBefore", "(II)I"⟩ ⟨"CoroutineFrames", "readsBefore", "(II)I"⟩) ∈ lw_all := lw_g (lw_at lw_ms 3 rfl) rfl
theorem qs4 : (Cond.selects "CoroutineFrames" ⟨"CoroutineFrames", "readsAt", "(II)I"⟩ ⟨"CoroutineFrames", "readsAt", "(II)I"⟩) ∈ lw_all := lw_g (lw_at lw_ms 4 rfl) rfl
theorem qs5 : (Cond.selects "CoroutineFrames" ⟨"CoroutineFrames", "unpack", "(II)V"⟩ ⟨"CoroutineFrames", "unpack", "(II)V"⟩) ∈ lw_all := lw_g (lw_at lw_ms 5 rfl) rfl
theorem qs6 : (Cond.selects "CoroutineFrames" ⟨"CoroutineFrames", "keptAt", "(II)I"⟩ ⟨"CoroutineFrames", "keptAt", "(II)I"⟩) ∈ lw_all := lw_g (lw_at lw_ms 6 rfl) rfl
theorem qs7 : (Cond.selects "CoroutineFrames" ⟨"CoroutineFrames", "carryOn", "(I)V"⟩ ⟨"CoroutineFrames", "carryOn", "(I)V"⟩) ∈ lw_all := lw_g (lw_at lw_ms 7 rfl) rfl
theorem qs8 : (Cond.selects "CoroutineFrames" ⟨"CoroutineFrames", "returnAtEnd", "(I)V"⟩ ⟨"CoroutineFrames", "returnAtEnd", "(I)V"⟩) ∈ lw_all := lw_g (lw_at lw_ms 8 rfl) rfl
theorem qs9 : (Cond.selects "CoroutineFrames" ⟨"CoroutineFrames", "pastEnd", "()Z"⟩ ⟨"CoroutineFrames", "pastEnd", "()Z"⟩) ∈ lw_all := lw_g (lw_at lw_ms 9 rfl) rfl
theorem qs10 : (Cond.selects "CoroutineFrames" ⟨"CoroutineFrames", "giveBack", "(II)V"⟩ ⟨"CoroutineFrames", "giveBack", "(II)V"⟩) ∈ lw_all := lw_g (lw_at lw_ms 10 rfl) rfl
theorem qs11 : (Cond.selects "CoroutineFrames" ⟨"CoroutineFrames", "finish", "(III)V"⟩ ⟨"CoroutineFrames", "finish", "(III)V"⟩) ∈ lw_all := lw_g (lw_at lw_ms 11 rfl) rfl
theorem qs12 : (Cond.selects "CoroutineFrames" ⟨"CoroutineFrames", "perform", "(I)V"⟩ ⟨"CoroutineFrames", "perform", "(I)V"⟩) ∈ lw_all := lw_g (lw_at lw_ms 12 rfl) rfl
theorem qs13 : (Cond.selects "CoroutineFrames" ⟨"CoroutineFrames", "pack", "(II)V"⟩ ⟨"CoroutineFrames", "pack", "(II)V"⟩) ∈ lw_all := lw_g (lw_at lw_ms 13 rfl) rfl
theorem qs14 : (Cond.selects "CoroutineFrames" ⟨"CoroutineFrames", "call", "(II)V"⟩ ⟨"CoroutineFrames", "call", "(II)V"⟩) ∈ lw_all := lw_g (lw_at lw_ms 14 rfl) rfl
theorem qs15 : (Cond.selects "CoroutineFramesModel" ⟨"CoroutineFramesModel", "badCo", "(I)Z"⟩ ⟨"CoroutineFramesModel", "badCo", "(I)Z"⟩) ∈ lw_all := lw_g (lw_at lw_ms 15 rfl) rfl
theorem qs16 : (Cond.selects "CoroutineFramesModel" ⟨"CoroutineFramesModel", "push", "(III)V"⟩ ⟨"CoroutineFramesModel", "push", "(III)V"⟩) ∈ lw_all := lw_g (lw_at lw_ms 16 rfl) rfl
theorem qs17 : (Cond.selects "CoroutineFramesModel" ⟨"CoroutineFramesModel", "fallOff", "(I)V"⟩ ⟨"CoroutineFramesModel", "fallOff", "(I)V"⟩) ∈ lw_all := lw_g (lw_at lw_ms 17 rfl) rfl
theorem qs18 : (Cond.selects "CoroutineFramesModel" ⟨"CoroutineFramesModel", "back", "(II)V"⟩ ⟨"CoroutineFramesModel", "back", "(II)V"⟩) ∈ lw_all := lw_g (lw_at lw_ms 18 rfl) rfl
theorem qs19 : (Cond.selects "CoroutineFramesModel" ⟨"CoroutineFramesModel", "end", "(III)V"⟩ ⟨"CoroutineFramesModel", "end", "(III)V"⟩) ∈ lw_all := lw_g (lw_at lw_ms 19 rfl) rfl
theorem qs20 : (Cond.selects "CoroutineFramesModel" ⟨"CoroutineFramesModel", "carryOut", "(I)V"⟩ ⟨"CoroutineFramesModel", "carryOut", "(I)V"⟩) ∈ lw_all := lw_g (lw_at lw_ms 20 rfl) rfl
end
section
set_option maxRecDepth 100000
/-! CoroutineFrames -/
def RX0 : String := "CoroutineFrames"
def TX0 : u_T := fun k => match k with
  | 0 => ("CoroutineFrames", "size", "[I", true)
  | 1 => ("CoroutineFrames", "op", "[I", true)
  | 2 => ("CoroutineFrames", "regA", "[I", true)
  | 3 => ("CoroutineFrames", "regB", "[I", true)
  | 4 => ("CoroutineFrames", "con", "[I", true)
  | 5 => ("CoroutineFrames", "analysed", "Z", false)
  | 6 => ("CoroutineFrames", "reads", "[I", true)
  | 7 => ("CoroutineFrames", "states", "[I", true)
  | 8 => ("CoroutineFrames", "values", "[I", true)
  | 9 => ("CoroutineFrames", "done", "[I", true)
  | 10 => ("CoroutineFrames", "depths", "[I", true)
  | 11 => ("CoroutineFrames", "frameFunction", "[I", true)
  | 12 => ("CoroutineFrames", "framePlace", "[I", true)
  | 13 => ("CoroutineFrames", "packed", "[I", true)
  | 14 => ("CoroutineFrames", "function", "I", false)
  | 15 => ("CoroutineFrames", "place", "I", false)
  | _ => ("CoroutineFrames", "reg", "[I", true)
def tyX0 : Nat → FieldType := fun k => match k with
  | 0 => .array .int
  | 1 => .array .int
  | 2 => .array .int
  | 3 => .array .int
  | 4 => .array .int
  | 5 => .boolean
  | 6 => .array .int
  | 7 => .array .int
  | 8 => .array .int
  | 9 => .array .int
  | 10 => .array .int
  | 11 => .array .int
  | 12 => .array .int
  | 13 => .array .int
  | 14 => .int
  | 15 => .int
  | _ => .array .int
abbrev wsX00 : List Cond := u_ws RX0 TX0 17
set_option maxRecDepth 100000 in
theorem nmX0 : ∀ a, a < 17 → ∀ b, b < 17 → a ≠ b → (TX0 a).2.1 ≠ (TX0 b).2.1 := by decide +kernel
set_option maxRecDepth 100000 in
theorem tyX0_ok : ∀ k, k < 17 → parseFieldDescriptor (TX0 k).2.2.1 = some (tyX0 k) := by decide +kernel
abbrev cX0_init : ByteArray := prog_1_method_1_code
def yX0_init : MethodName := ⟨RX0, "<init>", "()V"⟩
abbrev cX0_emit : ByteArray := prog_1_method_3_code
def yX0_emit : MethodName := ⟨RX0, "emit", "(IIII)I"⟩
abbrev cX0_start : ByteArray := prog_1_method_18_code
def yX0_start : MethodName := ⟨RX0, "start", "(III)I"⟩
abbrev cX0_bad : ByteArray := prog_1_method_2_code
def yX0_bad : MethodName := ⟨RX0, "bad", "(I)Z"⟩
abbrev cX0_resume : ByteArray := prog_1_method_20_code
def yX0_resume : MethodName := ⟨RX0, "resume", "(II)I"⟩
abbrev cX0_goOn : ByteArray := prog_1_method_19_code
def yX0_goOn : MethodName := ⟨RX0, "goOn", "(II)I"⟩
abbrev cX0_analyse : ByteArray := prog_1_method_6_code
def yX0_analyse : MethodName := ⟨RX0, "analyse", "()V"⟩
abbrev cX0_analyseAt : ByteArray := prog_1_method_7_code
def yX0_analyseAt : MethodName := ⟨RX0, "analyseAt", "(II)Z"⟩
abbrev cX0_readsBefore : ByteArray := prog_1_method_5_code
def yX0_readsBefore : MethodName := ⟨RX0, "readsBefore", "(II)I"⟩
abbrev cX0_readsAt : ByteArray := prog_1_method_4_code
def yX0_readsAt : MethodName := ⟨RX0, "readsAt", "(II)I"⟩
abbrev cX0_unpack : ByteArray := prog_1_method_10_code
def yX0_unpack : MethodName := ⟨RX0, "unpack", "(II)V"⟩
abbrev cX0_keptAt : ByteArray := prog_1_method_8_code
def yX0_keptAt : MethodName := ⟨RX0, "keptAt", "(II)I"⟩
abbrev cX0_carryOn : ByteArray := prog_1_method_17_code
def yX0_carryOn : MethodName := ⟨RX0, "carryOn", "(I)V"⟩
abbrev cX0_returnAtEnd : ByteArray := prog_1_method_16_code
def yX0_returnAtEnd : MethodName := ⟨RX0, "returnAtEnd", "(I)V"⟩
abbrev cX0_pastEnd : ByteArray := prog_1_method_15_code
def yX0_pastEnd : MethodName := ⟨RX0, "pastEnd", "()Z"⟩
abbrev cX0_giveBack : ByteArray := prog_1_method_12_code
def yX0_giveBack : MethodName := ⟨RX0, "giveBack", "(II)V"⟩
abbrev cX0_finish : ByteArray := prog_1_method_11_code
def yX0_finish : MethodName := ⟨RX0, "finish", "(III)V"⟩
abbrev cX0_perform : ByteArray := prog_1_method_14_code
def yX0_perform : MethodName := ⟨RX0, "perform", "(I)V"⟩
abbrev cX0_pack : ByteArray := prog_1_method_9_code
def yX0_pack : MethodName := ⟨RX0, "pack", "(II)V"⟩
abbrev cX0_call : ByteArray := prog_1_method_13_code
def yX0_call : MethodName := ⟨RX0, "call", "(II)V"⟩
abbrev cX0_echo : ByteArray := prog_1_method_21_code
def yX0_echo : MethodName := ⟨RX0, "echo", "(II)I"⟩
abbrev cX0_copy : ByteArray := prog_1_method_22_code
def yX0_copy : MethodName := ⟨RX0, "copy", "(II)I"⟩
abbrev cX0_drop : ByteArray := prog_1_method_23_code
def yX0_drop : MethodName := ⟨RX0, "drop", "(I)I"⟩
abbrev cX0_state : ByteArray := prog_1_method_24_code
def yX0_state : MethodName := ⟨RX0, "state", "(I)I"⟩
abbrev cX0_value : ByteArray := prog_1_method_25_code
def yX0_value : MethodName := ⟨RX0, "value", "(I)I"⟩
abbrev cX0_depth : ByteArray := prog_1_method_26_code
def yX0_depth : MethodName := ⟨RX0, "depth", "(I)I"⟩
abbrev cX0_alike : ByteArray := prog_1_method_27_code
def yX0_alike : MethodName := ⟨RX0, "alike", "(II)Z"⟩
abbrev cX0_steps : ByteArray := prog_1_method_28_code
def yX0_steps : MethodName := ⟨RX0, "steps", "(I)I"⟩
/-! java/lang/Object -/
def RJ0 : String := "java/lang/Object"
abbrev cJ0_init : ByteArray := object_method_1_code
def yJ0_init : MethodName := ⟨RJ0, "<init>", "()V"⟩
/-! CoroutineFramesModel -/
def RX1 : String := "CoroutineFramesModel"
/-- the model's last field's name, read off the Statement's own tables (its word at place 212 of tables_1_1) -/
def fd_r : String := match tables_1_1[212]? with
  | some (Jvm.Cond.soleField _ f) => f
  | _ => ""
def TX1 : u_T := fun k => match k with
  | 0 => ("CoroutineFramesModel", "sizes", "[I", true)
  | 1 => ("CoroutineFramesModel", "ops", "[I", true)
  | 2 => ("CoroutineFramesModel", "regs", "[I", true)
  | 3 => ("CoroutineFramesModel", "cs", "[I", true)
  | 4 => ("CoroutineFramesModel", "states", "[I", true)
  | 5 => ("CoroutineFramesModel", "values", "[I", true)
  | 6 => ("CoroutineFramesModel", "steps", "[I", true)
  | 7 => ("CoroutineFramesModel", "depths", "[I", true)
  | 8 => ("CoroutineFramesModel", "functions", "[I", true)
  | 9 => ("CoroutineFramesModel", "at", "[I", true)
  | 10 => ("CoroutineFramesModel", "gets", "[I", true)
  | _ => ("CoroutineFramesModel", fd_r, "[I", true)
def tyX1 : Nat → FieldType := fun k => match k with
  | 0 => .array .int
  | 1 => .array .int
  | 2 => .array .int
  | 3 => .array .int
  | 4 => .array .int
  | 5 => .array .int
  | 6 => .array .int
  | 7 => .array .int
  | 8 => .array .int
  | 9 => .array .int
  | 10 => .array .int
  | _ => .array .int
abbrev wsX10 : List Cond := u_ws RX1 TX1 12
theorem nmX1 : ∀ a, a < 12 → ∀ b, b < 12 → a ≠ b → (TX1 a).2.1 ≠ (TX1 b).2.1 := by decide +kernel
theorem tyX1_ok : ∀ k, k < 12 → parseFieldDescriptor (TX1 k).2.2.1 = some (tyX1 k) := by decide +kernel
abbrev cX1_init : ByteArray := prog_3_method_1_code
def yX1_init : MethodName := ⟨RX1, "<init>", "()V"⟩
abbrev cX1_emit : ByteArray := prog_3_method_3_code
def yX1_emit : MethodName := ⟨RX1, "emit", "(IIII)I"⟩
abbrev cX1_start : ByteArray := prog_3_method_5_code
def yX1_start : MethodName := ⟨RX1, "start", "(III)I"⟩
abbrev cX1_badCo : ByteArray := prog_3_method_2_code
def yX1_badCo : MethodName := ⟨RX1, "badCo", "(I)Z"⟩
abbrev cX1_push : ByteArray := prog_3_method_4_code
def yX1_push : MethodName := ⟨RX1, "push", "(III)V"⟩
abbrev cX1_resume : ByteArray := prog_3_method_10_code
def yX1_resume : MethodName := ⟨RX1, "resume", "(II)I"⟩
abbrev cX1_fallOff : ByteArray := prog_3_method_9_code
def yX1_fallOff : MethodName := ⟨RX1, "fallOff", "(I)V"⟩
abbrev cX1_back : ByteArray := prog_3_method_7_code
def yX1_back : MethodName := ⟨RX1, "back", "(II)V"⟩
abbrev cX1_end : ByteArray := prog_3_method_6_code
def yX1_end : MethodName := ⟨RX1, "end", "(III)V"⟩
abbrev cX1_carryOut : ByteArray := prog_3_method_8_code
def yX1_carryOut : MethodName := ⟨RX1, "carryOut", "(I)V"⟩
abbrev cX1_echo : ByteArray := prog_3_method_11_code
def yX1_echo : MethodName := ⟨RX1, "echo", "(II)I"⟩
abbrev cX1_copy : ByteArray := prog_3_method_12_code
def yX1_copy : MethodName := ⟨RX1, "copy", "(II)I"⟩
abbrev cX1_drop : ByteArray := prog_3_method_13_code
def yX1_drop : MethodName := ⟨RX1, "drop", "(I)I"⟩
abbrev cX1_state : ByteArray := prog_3_method_14_code
def yX1_state : MethodName := ⟨RX1, "state", "(I)I"⟩
abbrev cX1_value : ByteArray := prog_3_method_15_code
def yX1_value : MethodName := ⟨RX1, "value", "(I)I"⟩
abbrev cX1_depth : ByteArray := prog_3_method_16_code
def yX1_depth : MethodName := ⟨RX1, "depth", "(I)I"⟩
abbrev cX1_alike : ByteArray := prog_3_method_17_code
def yX1_alike : MethodName := ⟨RX1, "alike", "(II)Z"⟩
abbrev cX1_steps : ByteArray := prog_3_method_18_code
def yX1_steps : MethodName := ⟨RX1, "steps", "(I)I"⟩
/-! the law's own entry -/
abbrev cL_law : ByteArray := code
end
section
set_option maxRecDepth 100000
theorem q22 : (Jvm.Cond.initialized "CoroutineFrames") ∈ lw_all := lw_g (lw_at lw_m1 1 rfl) rfl
theorem q25 : (Jvm.Cond.instantiable "CoroutineFrames" (17 : Nat)) ∈ lw_all := lw_g (lw_at lw_m1 4 rfl) rfl
theorem q27 : (Jvm.Cond.instanceMethod ({ cls := "CoroutineFrames", name := "<init>", desc := "()V" } : Jvm.MethodName)) ∈ lw_all := lw_g (lw_at lw_m1 6 rfl) rfl
theorem q28 : (Jvm.Cond.code ({ cls := "CoroutineFrames", name := "<init>", desc := "()V" } : Jvm.MethodName) prog_1_method_1_code (1 : Nat) (Option.none : Option Jvm.ClassFile.FieldType)) ∈ lw_all := lw_g (lw_at lw_m1 7 rfl) rfl
theorem q29 : (Jvm.Cond.methodLink "CoroutineFrames" (1 : Nat) ({ cls := "java/lang/Object", name := "<init>", desc := "()V" } : Jvm.MethodName)) ∈ lw_all := lw_g (lw_at lw_m1 8 rfl) rfl
theorem q32 : (Jvm.Cond.fieldLink "CoroutineFrames" (7 : Nat) "CoroutineFrames" "size" "[I") ∈ lw_all := lw_g (lw_at lw_m1 11 rfl) rfl
theorem q33 : (Jvm.Cond.fieldLink "CoroutineFrames" (13 : Nat) "CoroutineFrames" "op" "[I") ∈ lw_all := lw_g (lw_at lw_m1 12 rfl) rfl
theorem q34 : (Jvm.Cond.fieldLink "CoroutineFrames" (16 : Nat) "CoroutineFrames" "regA" "[I") ∈ lw_all := lw_g (lw_at lw_m1 13 rfl) rfl
theorem q35 : (Jvm.Cond.fieldLink "CoroutineFrames" (19 : Nat) "CoroutineFrames" "regB" "[I") ∈ lw_all := lw_g (lw_at lw_m1 14 rfl) rfl
theorem q36 : (Jvm.Cond.fieldLink "CoroutineFrames" (22 : Nat) "CoroutineFrames" "con" "[I") ∈ lw_all := lw_g (lw_at lw_m1 15 rfl) rfl
theorem q37 : (Jvm.Cond.fieldLink "CoroutineFrames" (52 : Nat) "CoroutineFrames" "analysed" "Z") ∈ lw_all := lw_g (lw_at lw_m1 16 rfl) rfl
theorem q38 : (Jvm.Cond.fieldLink "CoroutineFrames" (25 : Nat) "CoroutineFrames" "reads" "[I") ∈ lw_all := lw_g (lw_at lw_m1 17 rfl) rfl
theorem q39 : (Jvm.Cond.fieldLink "CoroutineFrames" (28 : Nat) "CoroutineFrames" "states" "[I") ∈ lw_all := lw_g (lw_at lw_m1 18 rfl) rfl
theorem q40 : (Jvm.Cond.fieldLink "CoroutineFrames" (31 : Nat) "CoroutineFrames" "values" "[I") ∈ lw_all := lw_g (lw_at lw_m1 19 rfl) rfl
theorem q41 : (Jvm.Cond.fieldLink "CoroutineFrames" (34 : Nat) "CoroutineFrames" "done" "[I") ∈ lw_all := lw_g (lw_at lw_m1 20 rfl) rfl
theorem q42 : (Jvm.Cond.fieldLink "CoroutineFrames" (37 : Nat) "CoroutineFrames" "depths" "[I") ∈ lw_all := lw_g (lw_at lw_m1 21 rfl) rfl
theorem q43 : (Jvm.Cond.fieldLink "CoroutineFrames" (40 : Nat) "CoroutineFrames" "frameFunction" "[I") ∈ lw_all := lw_g (lw_at lw_m1 22 rfl) rfl
theorem q44 : (Jvm.Cond.fieldLink "CoroutineFrames" (43 : Nat) "CoroutineFrames" "framePlace" "[I") ∈ lw_all := lw_g (lw_at lw_m1 23 rfl) rfl
theorem q45 : (Jvm.Cond.fieldLink "CoroutineFrames" (46 : Nat) "CoroutineFrames" "packed" "[I") ∈ lw_all := lw_g (lw_at lw_m1 24 rfl) rfl
theorem q46 : (Jvm.Cond.fieldLink "CoroutineFrames" (67 : Nat) "CoroutineFrames" "function" "I") ∈ lw_all := lw_g (lw_at lw_m1 25 rfl) rfl
theorem q47 : (Jvm.Cond.fieldLink "CoroutineFrames" (71 : Nat) "CoroutineFrames" "place" "I") ∈ lw_all := lw_g (lw_at lw_m1 26 rfl) rfl
theorem q48 : (Jvm.Cond.fieldLink "CoroutineFrames" (49 : Nat) "CoroutineFrames" "reg" "[I") ∈ lw_all := lw_g (lw_at lw_m1 27 rfl) rfl
theorem q49 : (Jvm.Cond.laysFinal "CoroutineFrames" "CoroutineFrames" "size" "[I") ∈ lw_all := lw_g (lw_at lw_m1 28 rfl) rfl
theorem q50 : (Jvm.Cond.soleField "CoroutineFrames" "size") ∈ lw_all := lw_g (lw_at lw_m1 29 rfl) rfl
theorem q51 : (Jvm.Cond.laysFinal "CoroutineFrames" "CoroutineFrames" "op" "[I") ∈ lw_all := lw_g (lw_at lw_m1 30 rfl) rfl
theorem q52 : (Jvm.Cond.soleField "CoroutineFrames" "op") ∈ lw_all := lw_g (lw_at lw_m1 31 rfl) rfl
theorem q53 : (Jvm.Cond.laysFinal "CoroutineFrames" "CoroutineFrames" "regA" "[I") ∈ lw_all := lw_g (lw_at lw_m1 32 rfl) rfl
theorem q54 : (Jvm.Cond.soleField "CoroutineFrames" "regA") ∈ lw_all := lw_g (lw_at lw_m1 33 rfl) rfl
theorem q55 : (Jvm.Cond.laysFinal "CoroutineFrames" "CoroutineFrames" "regB" "[I") ∈ lw_all := lw_g (lw_at lw_m1 34 rfl) rfl
theorem q56 : (Jvm.Cond.soleField "CoroutineFrames" "regB") ∈ lw_all := lw_g (lw_at lw_m1 35 rfl) rfl
theorem q57 : (Jvm.Cond.laysFinal "CoroutineFrames" "CoroutineFrames" "con" "[I") ∈ lw_all := lw_g (lw_at lw_m1 36 rfl) rfl
theorem q58 : (Jvm.Cond.soleField "CoroutineFrames" "con") ∈ lw_all := lw_g (lw_at lw_m1 37 rfl) rfl
theorem q59 : (Jvm.Cond.lays "CoroutineFrames" "CoroutineFrames" "analysed" "Z") ∈ lw_all := lw_g (lw_at lw_m1 38 rfl) rfl
theorem q60 : (Jvm.Cond.soleField "CoroutineFrames" "analysed") ∈ lw_all := lw_g (lw_at lw_m1 39 rfl) rfl
theorem q61 : (Jvm.Cond.laysFinal "CoroutineFrames" "CoroutineFrames" "reads" "[I") ∈ lw_all := lw_g (lw_at lw_m1 40 rfl) rfl
theorem q62 : (Jvm.Cond.soleField "CoroutineFrames" "reads") ∈ lw_all := lw_g (lw_at lw_m1 41 rfl) rfl
theorem q63 : (Jvm.Cond.laysFinal "CoroutineFrames" "CoroutineFrames" "states" "[I") ∈ lw_all := lw_g (lw_at lw_m1 42 rfl) rfl
theorem q64 : (Jvm.Cond.soleField "CoroutineFrames" "states") ∈ lw_all := lw_g (lw_at lw_m1 43 rfl) rfl
theorem q65 : (Jvm.Cond.laysFinal "CoroutineFrames" "CoroutineFrames" "values" "[I") ∈ lw_all := lw_g (lw_at lw_m1 44 rfl) rfl
theorem q66 : (Jvm.Cond.soleField "CoroutineFrames" "values") ∈ lw_all := lw_g (lw_at lw_m1 45 rfl) rfl
theorem q67 : (Jvm.Cond.laysFinal "CoroutineFrames" "CoroutineFrames" "done" "[I") ∈ lw_all := lw_g (lw_at lw_m1 46 rfl) rfl
theorem q68 : (Jvm.Cond.soleField "CoroutineFrames" "done") ∈ lw_all := lw_g (lw_at lw_m1 47 rfl) rfl
theorem q69 : (Jvm.Cond.laysFinal "CoroutineFrames" "CoroutineFrames" "depths" "[I") ∈ lw_all := lw_g (lw_at lw_m1 48 rfl) rfl
theorem q70 : (Jvm.Cond.soleField "CoroutineFrames" "depths") ∈ lw_all := lw_g (lw_at lw_m1 49 rfl) rfl
theorem q71 : (Jvm.Cond.laysFinal "CoroutineFrames" "CoroutineFrames" "frameFunction" "[I") ∈ lw_all := lw_g (lw_at lw_m1 50 rfl) rfl
theorem q72 : (Jvm.Cond.soleField "CoroutineFrames" "frameFunction") ∈ lw_all := lw_g (lw_at lw_m1 51 rfl) rfl
theorem q73 : (Jvm.Cond.laysFinal "CoroutineFrames" "CoroutineFrames" "framePlace" "[I") ∈ lw_all := lw_g (lw_at lw_m1 52 rfl) rfl
theorem q74 : (Jvm.Cond.soleField "CoroutineFrames" "framePlace") ∈ lw_all := lw_g (lw_at lw_m1 53 rfl) rfl
theorem q75 : (Jvm.Cond.laysFinal "CoroutineFrames" "CoroutineFrames" "packed" "[I") ∈ lw_all := lw_g (lw_at lw_m1 54 rfl) rfl
theorem q76 : (Jvm.Cond.soleField "CoroutineFrames" "packed") ∈ lw_all := lw_g (lw_at lw_m1 55 rfl) rfl
theorem q77 : (Jvm.Cond.lays "CoroutineFrames" "CoroutineFrames" "function" "I") ∈ lw_all := lw_g (lw_at lw_m1 56 rfl) rfl
theorem q78 : (Jvm.Cond.soleField "CoroutineFrames" "function") ∈ lw_all := lw_g (lw_at lw_m1 57 rfl) rfl
theorem q79 : (Jvm.Cond.lays "CoroutineFrames" "CoroutineFrames" "place" "I") ∈ lw_all := lw_g (lw_at lw_m1 58 rfl) rfl
theorem q80 : (Jvm.Cond.soleField "CoroutineFrames" "place") ∈ lw_all := lw_g (lw_at lw_m1 59 rfl) rfl
theorem q81 : (Jvm.Cond.laysFinal "CoroutineFrames" "CoroutineFrames" "reg" "[I") ∈ lw_all := lw_g (lw_at lw_m1 60 rfl) rfl
theorem q82 : (Jvm.Cond.soleField "CoroutineFrames" "reg") ∈ lw_all := lw_g (lw_at lw_m1 61 rfl) rfl
theorem q83 : (Jvm.Cond.superclass "CoroutineFrames" "java/lang/Object") ∈ lw_all := lw_g (lw_at lw_m1 62 rfl) rfl
theorem q86 : (Jvm.Cond.instanceMethod ({ cls := "CoroutineFrames", name := "emit", desc := "(IIII)I" } : Jvm.MethodName)) ∈ lw_all := lw_g (lw_at lw_m1 65 rfl) rfl
theorem q87 : (Jvm.Cond.selects "CoroutineFrames" ({ cls := "CoroutineFrames", name := "emit", desc := "(IIII)I" } : Jvm.MethodName) ({ cls := "CoroutineFrames", name := "emit", desc := "(IIII)I" } : Jvm.MethodName)) ∈ lw_all := lw_g (lw_at lw_m1 66 rfl) rfl
theorem q88 : (Jvm.Cond.code ({ cls := "CoroutineFrames", name := "emit", desc := "(IIII)I" } : Jvm.MethodName) prog_1_method_3_code (6 : Nat) (Option.some Jvm.ClassFile.FieldType.int)) ∈ lw_all := lw_g (lw_at lw_m1 67 rfl) rfl
theorem q90 : (Jvm.Cond.instanceMethod ({ cls := "CoroutineFrames", name := "start", desc := "(III)I" } : Jvm.MethodName)) ∈ lw_all := lw_g (lw_at lw_m1 69 rfl) rfl
theorem q91 : (Jvm.Cond.selects "CoroutineFrames" ({ cls := "CoroutineFrames", name := "start", desc := "(III)I" } : Jvm.MethodName) ({ cls := "CoroutineFrames", name := "start", desc := "(III)I" } : Jvm.MethodName)) ∈ lw_all := lw_g (lw_at lw_m1 70 rfl) rfl
theorem q92 : (Jvm.Cond.code ({ cls := "CoroutineFrames", name := "start", desc := "(III)I" } : Jvm.MethodName) prog_1_method_18_code (4 : Nat) (Option.some Jvm.ClassFile.FieldType.int)) ∈ lw_all := lw_g (lw_at lw_m1 71 rfl) rfl
theorem q93 : (Jvm.Cond.methodLink "CoroutineFrames" (105 : Nat) ({ cls := "CoroutineFrames", name := "bad", desc := "(I)Z" } : Jvm.MethodName)) ∈ lw_all := lw_g (lw_at lw_m1 72 rfl) rfl
theorem q94 : (Jvm.Cond.static ({ cls := "CoroutineFrames", name := "bad", desc := "(I)Z" } : Jvm.MethodName)) ∈ lw_all := lw_g (lw_at lw_m1 73 rfl) rfl
theorem q95 : (Jvm.Cond.code ({ cls := "CoroutineFrames", name := "bad", desc := "(I)Z" } : Jvm.MethodName) prog_1_method_2_code (1 : Nat) (Option.some Jvm.ClassFile.FieldType.boolean)) ∈ lw_all := lw_g (lw_at lw_m1 74 rfl) rfl
theorem q97 : (Jvm.Cond.instanceMethod ({ cls := "CoroutineFrames", name := "resume", desc := "(II)I" } : Jvm.MethodName)) ∈ lw_all := lw_g (lw_at lw_m1 76 rfl) rfl
theorem q98 : (Jvm.Cond.selects "CoroutineFrames" ({ cls := "CoroutineFrames", name := "resume", desc := "(II)I" } : Jvm.MethodName) ({ cls := "CoroutineFrames", name := "resume", desc := "(II)I" } : Jvm.MethodName)) ∈ lw_all := lw_g (lw_at lw_m1 77 rfl) rfl
theorem q99 : (Jvm.Cond.code ({ cls := "CoroutineFrames", name := "resume", desc := "(II)I" } : Jvm.MethodName) prog_1_method_20_code (3 : Nat) (Option.some Jvm.ClassFile.FieldType.int)) ∈ lw_all := lw_g (lw_at lw_m1 78 rfl) rfl
theorem q100 : (Jvm.Cond.methodLink "CoroutineFrames" (115 : Nat) ({ cls := "CoroutineFrames", name := "goOn", desc := "(II)I" } : Jvm.MethodName)) ∈ lw_all := lw_g (lw_at lw_m1 79 rfl) rfl
theorem q101 : (Jvm.Cond.privateMethod ({ cls := "CoroutineFrames", name := "goOn", desc := "(II)I" } : Jvm.MethodName)) ∈ lw_tbl := lw_at lw_m1 80 rfl
theorem q102 : (Jvm.Cond.instanceMethod ({ cls := "CoroutineFrames", name := "goOn", desc := "(II)I" } : Jvm.MethodName)) ∈ lw_all := lw_g (lw_at lw_m1 81 rfl) rfl
theorem q103 : (Jvm.Cond.code ({ cls := "CoroutineFrames", name := "goOn", desc := "(II)I" } : Jvm.MethodName) prog_1_method_19_code (3 : Nat) (Option.some Jvm.ClassFile.FieldType.int)) ∈ lw_all := lw_g (lw_at lw_m1 82 rfl) rfl
theorem q104 : (Jvm.Cond.methodLink "CoroutineFrames" (109 : Nat) ({ cls := "CoroutineFrames", name := "analyse", desc := "()V" } : Jvm.MethodName)) ∈ lw_all := lw_g (lw_at lw_m1 83 rfl) rfl
theorem q105 : (Jvm.Cond.privateMethod ({ cls := "CoroutineFrames", name := "analyse", desc := "()V" } : Jvm.MethodName)) ∈ lw_tbl := lw_at lw_m1 84 rfl
theorem q106 : (Jvm.Cond.instanceMethod ({ cls := "CoroutineFrames", name := "analyse", desc := "()V" } : Jvm.MethodName)) ∈ lw_all := lw_g (lw_at lw_m1 85 rfl) rfl
theorem q107 : (Jvm.Cond.code ({ cls := "CoroutineFrames", name := "analyse", desc := "()V" } : Jvm.MethodName) prog_1_method_6_code (5 : Nat) (Option.none : Option Jvm.ClassFile.FieldType)) ∈ lw_all := lw_g (lw_at lw_m1 86 rfl) rfl
theorem q108 : (Jvm.Cond.methodLink "CoroutineFrames" (60 : Nat) ({ cls := "CoroutineFrames", name := "analyseAt", desc := "(II)Z" } : Jvm.MethodName)) ∈ lw_all := lw_g (lw_at lw_m1 87 rfl) rfl
theorem q109 : (Jvm.Cond.privateMethod ({ cls := "CoroutineFrames", name := "analyseAt", desc := "(II)Z" } : Jvm.MethodName)) ∈ lw_tbl := lw_at lw_m1 88 rfl
theorem q110 : (Jvm.Cond.instanceMethod ({ cls := "CoroutineFrames", name := "analyseAt", desc := "(II)Z" } : Jvm.MethodName)) ∈ lw_all := lw_g (lw_at lw_m1 89 rfl) rfl
theorem q111 : (Jvm.Cond.code ({ cls := "CoroutineFrames", name := "analyseAt", desc := "(II)Z" } : Jvm.MethodName) prog_1_method_7_code (4 : Nat) (Option.some Jvm.ClassFile.FieldType.boolean)) ∈ lw_all := lw_g (lw_at lw_m1 90 rfl) rfl
theorem q112 : (Jvm.Cond.methodLink "CoroutineFrames" (64 : Nat) ({ cls := "CoroutineFrames", name := "readsBefore", desc := "(II)I" } : Jvm.MethodName)) ∈ lw_all := lw_g (lw_at lw_m1 91 rfl) rfl
theorem q113 : (Jvm.Cond.privateMethod ({ cls := "CoroutineFrames", name := "readsBefore", desc := "(II)I" } : Jvm.MethodName)) ∈ lw_tbl := lw_at lw_m1 92 rfl
theorem q114 : (Jvm.Cond.instanceMethod ({ cls := "CoroutineFrames", name := "readsBefore", desc := "(II)I" } : Jvm.MethodName)) ∈ lw_all := lw_g (lw_at lw_m1 93 rfl) rfl
theorem q115 : (Jvm.Cond.code ({ cls := "CoroutineFrames", name := "readsBefore", desc := "(II)I" } : Jvm.MethodName) prog_1_method_5_code (7 : Nat) (Option.some Jvm.ClassFile.FieldType.int)) ∈ lw_all := lw_g (lw_at lw_m1 94 rfl) rfl
theorem q116 : (Jvm.Cond.methodLink "CoroutineFrames" (56 : Nat) ({ cls := "CoroutineFrames", name := "readsAt", desc := "(II)I" } : Jvm.MethodName)) ∈ lw_all := lw_g (lw_at lw_m1 95 rfl) rfl
theorem q117 : (Jvm.Cond.privateMethod ({ cls := "CoroutineFrames", name := "readsAt", desc := "(II)I" } : Jvm.MethodName)) ∈ lw_tbl := lw_at lw_m1 96 rfl
theorem q118 : (Jvm.Cond.instanceMethod ({ cls := "CoroutineFrames", name := "readsAt", desc := "(II)I" } : Jvm.MethodName)) ∈ lw_all := lw_g (lw_at lw_m1 97 rfl) rfl
theorem q119 : (Jvm.Cond.code ({ cls := "CoroutineFrames", name := "readsAt", desc := "(II)I" } : Jvm.MethodName) prog_1_method_4_code (3 : Nat) (Option.some Jvm.ClassFile.FieldType.int)) ∈ lw_all := lw_g (lw_at lw_m1 98 rfl) rfl
theorem q120 : (Jvm.Cond.methodLink "CoroutineFrames" (81 : Nat) ({ cls := "CoroutineFrames", name := "unpack", desc := "(II)V" } : Jvm.MethodName)) ∈ lw_all := lw_g (lw_at lw_m1 99 rfl) rfl
theorem q121 : (Jvm.Cond.privateMethod ({ cls := "CoroutineFrames", name := "unpack", desc := "(II)V" } : Jvm.MethodName)) ∈ lw_tbl := lw_at lw_m1 100 rfl
theorem q122 : (Jvm.Cond.instanceMethod ({ cls := "CoroutineFrames", name := "unpack", desc := "(II)V" } : Jvm.MethodName)) ∈ lw_all := lw_g (lw_at lw_m1 101 rfl) rfl
theorem q123 : (Jvm.Cond.code ({ cls := "CoroutineFrames", name := "unpack", desc := "(II)V" } : Jvm.MethodName) prog_1_method_10_code (7 : Nat) (Option.none : Option Jvm.ClassFile.FieldType)) ∈ lw_all := lw_g (lw_at lw_m1 102 rfl) rfl
theorem q124 : (Jvm.Cond.methodLink "CoroutineFrames" (74 : Nat) ({ cls := "CoroutineFrames", name := "keptAt", desc := "(II)I" } : Jvm.MethodName)) ∈ lw_all := lw_g (lw_at lw_m1 103 rfl) rfl
theorem q125 : (Jvm.Cond.privateMethod ({ cls := "CoroutineFrames", name := "keptAt", desc := "(II)I" } : Jvm.MethodName)) ∈ lw_tbl := lw_at lw_m1 104 rfl
theorem q126 : (Jvm.Cond.instanceMethod ({ cls := "CoroutineFrames", name := "keptAt", desc := "(II)I" } : Jvm.MethodName)) ∈ lw_all := lw_g (lw_at lw_m1 105 rfl) rfl
theorem q127 : (Jvm.Cond.code ({ cls := "CoroutineFrames", name := "keptAt", desc := "(II)I" } : Jvm.MethodName) prog_1_method_8_code (6 : Nat) (Option.some Jvm.ClassFile.FieldType.int)) ∈ lw_all := lw_g (lw_at lw_m1 106 rfl) rfl
theorem q128 : (Jvm.Cond.methodLink "CoroutineFrames" (112 : Nat) ({ cls := "CoroutineFrames", name := "carryOn", desc := "(I)V" } : Jvm.MethodName)) ∈ lw_all := lw_g (lw_at lw_m1 107 rfl) rfl
theorem q129 : (Jvm.Cond.privateMethod ({ cls := "CoroutineFrames", name := "carryOn", desc := "(I)V" } : Jvm.MethodName)) ∈ lw_tbl := lw_at lw_m1 108 rfl
theorem q130 : (Jvm.Cond.instanceMethod ({ cls := "CoroutineFrames", name := "carryOn", desc := "(I)V" } : Jvm.MethodName)) ∈ lw_all := lw_g (lw_at lw_m1 109 rfl) rfl
theorem q131 : (Jvm.Cond.code ({ cls := "CoroutineFrames", name := "carryOn", desc := "(I)V" } : Jvm.MethodName) prog_1_method_17_code (3 : Nat) (Option.none : Option Jvm.ClassFile.FieldType)) ∈ lw_all := lw_g (lw_at lw_m1 110 rfl) rfl
theorem q132 : (Jvm.Cond.methodLink "CoroutineFrames" (98 : Nat) ({ cls := "CoroutineFrames", name := "returnAtEnd", desc := "(I)V" } : Jvm.MethodName)) ∈ lw_all := lw_g (lw_at lw_m1 111 rfl) rfl
theorem q133 : (Jvm.Cond.privateMethod ({ cls := "CoroutineFrames", name := "returnAtEnd", desc := "(I)V" } : Jvm.MethodName)) ∈ lw_tbl := lw_at lw_m1 112 rfl
theorem q134 : (Jvm.Cond.instanceMethod ({ cls := "CoroutineFrames", name := "returnAtEnd", desc := "(I)V" } : Jvm.MethodName)) ∈ lw_all := lw_g (lw_at lw_m1 113 rfl) rfl
theorem q135 : (Jvm.Cond.code ({ cls := "CoroutineFrames", name := "returnAtEnd", desc := "(I)V" } : Jvm.MethodName) prog_1_method_16_code (3 : Nat) (Option.none : Option Jvm.ClassFile.FieldType)) ∈ lw_all := lw_g (lw_at lw_m1 114 rfl) rfl
theorem q136 : (Jvm.Cond.methodLink "CoroutineFrames" (94 : Nat) ({ cls := "CoroutineFrames", name := "pastEnd", desc := "()Z" } : Jvm.MethodName)) ∈ lw_all := lw_g (lw_at lw_m1 115 rfl) rfl
theorem q137 : (Jvm.Cond.privateMethod ({ cls := "CoroutineFrames", name := "pastEnd", desc := "()Z" } : Jvm.MethodName)) ∈ lw_tbl := lw_at lw_m1 116 rfl
theorem q138 : (Jvm.Cond.instanceMethod ({ cls := "CoroutineFrames", name := "pastEnd", desc := "()Z" } : Jvm.MethodName)) ∈ lw_all := lw_g (lw_at lw_m1 117 rfl) rfl
theorem q139 : (Jvm.Cond.code ({ cls := "CoroutineFrames", name := "pastEnd", desc := "()Z" } : Jvm.MethodName) prog_1_method_15_code (1 : Nat) (Option.some Jvm.ClassFile.FieldType.boolean)) ∈ lw_all := lw_g (lw_at lw_m1 118 rfl) rfl
theorem q140 : (Jvm.Cond.methodLink "CoroutineFrames" (91 : Nat) ({ cls := "CoroutineFrames", name := "giveBack", desc := "(II)V" } : Jvm.MethodName)) ∈ lw_all := lw_g (lw_at lw_m1 119 rfl) rfl
theorem q141 : (Jvm.Cond.privateMethod ({ cls := "CoroutineFrames", name := "giveBack", desc := "(II)V" } : Jvm.MethodName)) ∈ lw_tbl := lw_at lw_m1 120 rfl
theorem q142 : (Jvm.Cond.instanceMethod ({ cls := "CoroutineFrames", name := "giveBack", desc := "(II)V" } : Jvm.MethodName)) ∈ lw_all := lw_g (lw_at lw_m1 121 rfl) rfl
theorem q143 : (Jvm.Cond.code ({ cls := "CoroutineFrames", name := "giveBack", desc := "(II)V" } : Jvm.MethodName) prog_1_method_12_code (3 : Nat) (Option.none : Option Jvm.ClassFile.FieldType)) ∈ lw_all := lw_g (lw_at lw_m1 122 rfl) rfl
theorem q144 : (Jvm.Cond.methodLink "CoroutineFrames" (77 : Nat) ({ cls := "CoroutineFrames", name := "finish", desc := "(III)V" } : Jvm.MethodName)) ∈ lw_all := lw_g (lw_at lw_m1 123 rfl) rfl
theorem q145 : (Jvm.Cond.privateMethod ({ cls := "CoroutineFrames", name := "finish", desc := "(III)V" } : Jvm.MethodName)) ∈ lw_tbl := lw_at lw_m1 124 rfl
theorem q146 : (Jvm.Cond.instanceMethod ({ cls := "CoroutineFrames", name := "finish", desc := "(III)V" } : Jvm.MethodName)) ∈ lw_all := lw_g (lw_at lw_m1 125 rfl) rfl
theorem q147 : (Jvm.Cond.code ({ cls := "CoroutineFrames", name := "finish", desc := "(III)V" } : Jvm.MethodName) prog_1_method_11_code (4 : Nat) (Option.none : Option Jvm.ClassFile.FieldType)) ∈ lw_all := lw_g (lw_at lw_m1 126 rfl) rfl
theorem q148 : (Jvm.Cond.methodLink "CoroutineFrames" (102 : Nat) ({ cls := "CoroutineFrames", name := "perform", desc := "(I)V" } : Jvm.MethodName)) ∈ lw_all := lw_g (lw_at lw_m1 127 rfl) rfl
theorem q149 : (Jvm.Cond.privateMethod ({ cls := "CoroutineFrames", name := "perform", desc := "(I)V" } : Jvm.MethodName)) ∈ lw_tbl := lw_at lw_m1 128 rfl
theorem q150 : (Jvm.Cond.instanceMethod ({ cls := "CoroutineFrames", name := "perform", desc := "(I)V" } : Jvm.MethodName)) ∈ lw_all := lw_g (lw_at lw_m1 129 rfl) rfl
theorem q151 : (Jvm.Cond.code ({ cls := "CoroutineFrames", name := "perform", desc := "(I)V" } : Jvm.MethodName) prog_1_method_14_code (5 : Nat) (Option.none : Option Jvm.ClassFile.FieldType)) ∈ lw_all := lw_g (lw_at lw_m1 130 rfl) rfl
theorem q152 : (Jvm.Cond.methodLink "CoroutineFrames" (85 : Nat) ({ cls := "CoroutineFrames", name := "pack", desc := "(II)V" } : Jvm.MethodName)) ∈ lw_all := lw_g (lw_at lw_m1 131 rfl) rfl
theorem q153 : (Jvm.Cond.privateMethod ({ cls := "CoroutineFrames", name := "pack", desc := "(II)V" } : Jvm.MethodName)) ∈ lw_tbl := lw_at lw_m1 132 rfl
theorem q154 : (Jvm.Cond.instanceMethod ({ cls := "CoroutineFrames", name := "pack", desc := "(II)V" } : Jvm.MethodName)) ∈ lw_all := lw_g (lw_at lw_m1 133 rfl) rfl
theorem q155 : (Jvm.Cond.code ({ cls := "CoroutineFrames", name := "pack", desc := "(II)V" } : Jvm.MethodName) prog_1_method_9_code (7 : Nat) (Option.none : Option Jvm.ClassFile.FieldType)) ∈ lw_all := lw_g (lw_at lw_m1 134 rfl) rfl
theorem q156 : (Jvm.Cond.methodLink "CoroutineFrames" (88 : Nat) ({ cls := "CoroutineFrames", name := "call", desc := "(II)V" } : Jvm.MethodName)) ∈ lw_all := lw_g (lw_at lw_m1 135 rfl) rfl
theorem q157 : (Jvm.Cond.privateMethod ({ cls := "CoroutineFrames", name := "call", desc := "(II)V" } : Jvm.MethodName)) ∈ lw_tbl := lw_at lw_m1 136 rfl
theorem q158 : (Jvm.Cond.instanceMethod ({ cls := "CoroutineFrames", name := "call", desc := "(II)V" } : Jvm.MethodName)) ∈ lw_all := lw_g (lw_at lw_m1 137 rfl) rfl
theorem q159 : (Jvm.Cond.code ({ cls := "CoroutineFrames", name := "call", desc := "(II)V" } : Jvm.MethodName) prog_1_method_13_code (6 : Nat) (Option.none : Option Jvm.ClassFile.FieldType)) ∈ lw_all := lw_g (lw_at lw_m1 138 rfl) rfl
theorem q161 : (Jvm.Cond.instanceMethod ({ cls := "CoroutineFrames", name := "echo", desc := "(II)I" } : Jvm.MethodName)) ∈ lw_all := lw_g (lw_at lw_m1 140 rfl) rfl
theorem q162 : (Jvm.Cond.selects "CoroutineFrames" ({ cls := "CoroutineFrames", name := "echo", desc := "(II)I" } : Jvm.MethodName) ({ cls := "CoroutineFrames", name := "echo", desc := "(II)I" } : Jvm.MethodName)) ∈ lw_all := lw_g (lw_at lw_m1 141 rfl) rfl
theorem q163 : (Jvm.Cond.code ({ cls := "CoroutineFrames", name := "echo", desc := "(II)I" } : Jvm.MethodName) prog_1_method_21_code (6 : Nat) (Option.some Jvm.ClassFile.FieldType.int)) ∈ lw_all := lw_g (lw_at lw_m1 142 rfl) rfl
theorem q165 : (Jvm.Cond.instanceMethod ({ cls := "CoroutineFrames", name := "copy", desc := "(II)I" } : Jvm.MethodName)) ∈ lw_all := lw_g (lw_at lw_m1 144 rfl) rfl
theorem q166 : (Jvm.Cond.selects "CoroutineFrames" ({ cls := "CoroutineFrames", name := "copy", desc := "(II)I" } : Jvm.MethodName) ({ cls := "CoroutineFrames", name := "copy", desc := "(II)I" } : Jvm.MethodName)) ∈ lw_all := lw_g (lw_at lw_m1 145 rfl) rfl
theorem q167 : (Jvm.Cond.code ({ cls := "CoroutineFrames", name := "copy", desc := "(II)I" } : Jvm.MethodName) prog_1_method_22_code (4 : Nat) (Option.some Jvm.ClassFile.FieldType.int)) ∈ lw_all := lw_g (lw_at lw_m1 146 rfl) rfl
theorem q169 : (Jvm.Cond.instanceMethod ({ cls := "CoroutineFrames", name := "drop", desc := "(I)I" } : Jvm.MethodName)) ∈ lw_all := lw_g (lw_at lw_m1 148 rfl) rfl
theorem q170 : (Jvm.Cond.selects "CoroutineFrames" ({ cls := "CoroutineFrames", name := "drop", desc := "(I)I" } : Jvm.MethodName) ({ cls := "CoroutineFrames", name := "drop", desc := "(I)I" } : Jvm.MethodName)) ∈ lw_all := lw_g (lw_at lw_m1 149 rfl) rfl
theorem q171 : (Jvm.Cond.code ({ cls := "CoroutineFrames", name := "drop", desc := "(I)I" } : Jvm.MethodName) prog_1_method_23_code (3 : Nat) (Option.some Jvm.ClassFile.FieldType.int)) ∈ lw_all := lw_g (lw_at lw_m1 150 rfl) rfl
theorem q173 : (Jvm.Cond.instanceMethod ({ cls := "CoroutineFrames", name := "state", desc := "(I)I" } : Jvm.MethodName)) ∈ lw_all := lw_g (lw_at lw_m1 152 rfl) rfl
theorem q174 : (Jvm.Cond.selects "CoroutineFrames" ({ cls := "CoroutineFrames", name := "state", desc := "(I)I" } : Jvm.MethodName) ({ cls := "CoroutineFrames", name := "state", desc := "(I)I" } : Jvm.MethodName)) ∈ lw_all := lw_g (lw_at lw_m1 153 rfl) rfl
theorem q175 : (Jvm.Cond.code ({ cls := "CoroutineFrames", name := "state", desc := "(I)I" } : Jvm.MethodName) prog_1_method_24_code (2 : Nat) (Option.some Jvm.ClassFile.FieldType.int)) ∈ lw_all := lw_g (lw_at lw_m1 154 rfl) rfl
theorem q177 : (Jvm.Cond.instanceMethod ({ cls := "CoroutineFrames", name := "value", desc := "(I)I" } : Jvm.MethodName)) ∈ lw_all := lw_g (lw_at lw_m1 156 rfl) rfl
theorem q178 : (Jvm.Cond.selects "CoroutineFrames" ({ cls := "CoroutineFrames", name := "value", desc := "(I)I" } : Jvm.MethodName) ({ cls := "CoroutineFrames", name := "value", desc := "(I)I" } : Jvm.MethodName)) ∈ lw_all := lw_g (lw_at lw_m1 157 rfl) rfl
theorem q179 : (Jvm.Cond.code ({ cls := "CoroutineFrames", name := "value", desc := "(I)I" } : Jvm.MethodName) prog_1_method_25_code (2 : Nat) (Option.some Jvm.ClassFile.FieldType.int)) ∈ lw_all := lw_g (lw_at lw_m1 158 rfl) rfl
theorem q181 : (Jvm.Cond.instanceMethod ({ cls := "CoroutineFrames", name := "depth", desc := "(I)I" } : Jvm.MethodName)) ∈ lw_all := lw_g (lw_at lw_m1 160 rfl) rfl
theorem q182 : (Jvm.Cond.selects "CoroutineFrames" ({ cls := "CoroutineFrames", name := "depth", desc := "(I)I" } : Jvm.MethodName) ({ cls := "CoroutineFrames", name := "depth", desc := "(I)I" } : Jvm.MethodName)) ∈ lw_all := lw_g (lw_at lw_m1 161 rfl) rfl
theorem q183 : (Jvm.Cond.code ({ cls := "CoroutineFrames", name := "depth", desc := "(I)I" } : Jvm.MethodName) prog_1_method_26_code (2 : Nat) (Option.some Jvm.ClassFile.FieldType.int)) ∈ lw_all := lw_g (lw_at lw_m1 162 rfl) rfl
theorem q185 : (Jvm.Cond.instanceMethod ({ cls := "CoroutineFrames", name := "alike", desc := "(II)Z" } : Jvm.MethodName)) ∈ lw_all := lw_g (lw_at lw_m1 164 rfl) rfl
theorem q186 : (Jvm.Cond.selects "CoroutineFrames" ({ cls := "CoroutineFrames", name := "alike", desc := "(II)Z" } : Jvm.MethodName) ({ cls := "CoroutineFrames", name := "alike", desc := "(II)Z" } : Jvm.MethodName)) ∈ lw_all := lw_g (lw_at lw_m1 165 rfl) rfl
theorem q187 : (Jvm.Cond.code ({ cls := "CoroutineFrames", name := "alike", desc := "(II)Z" } : Jvm.MethodName) prog_1_method_27_code (3 : Nat) (Option.some Jvm.ClassFile.FieldType.boolean)) ∈ lw_all := lw_g (lw_at lw_m1 166 rfl) rfl
theorem q189 : (Jvm.Cond.instanceMethod ({ cls := "CoroutineFrames", name := "steps", desc := "(I)I" } : Jvm.MethodName)) ∈ lw_all := lw_g (lw_at lw_m1 168 rfl) rfl
theorem q190 : (Jvm.Cond.selects "CoroutineFrames" ({ cls := "CoroutineFrames", name := "steps", desc := "(I)I" } : Jvm.MethodName) ({ cls := "CoroutineFrames", name := "steps", desc := "(I)I" } : Jvm.MethodName)) ∈ lw_all := lw_g (lw_at lw_m1 169 rfl) rfl
theorem q191 : (Jvm.Cond.code ({ cls := "CoroutineFrames", name := "steps", desc := "(I)I" } : Jvm.MethodName) prog_1_method_28_code (2 : Nat) (Option.some Jvm.ClassFile.FieldType.int)) ∈ lw_all := lw_g (lw_at lw_m1 170 rfl) rfl
theorem in_X0 : ∀ w ∈ wsX00, w ∈ lw_all := lw_in wsX00 [49, 51, 53, 55, 57, 59, 61, 63, 65, 67, 69, 71, 73, 75, 77, 79, 81] (by decide +kernel) (by decide +kernel)
theorem q30 : (Jvm.Cond.instanceMethod ({ cls := "java/lang/Object", name := "<init>", desc := "()V" } : Jvm.MethodName)) ∈ lw_all := lw_g (lw_at lw_m1 9 rfl) rfl
theorem q31 : (Jvm.Cond.code ({ cls := "java/lang/Object", name := "<init>", desc := "()V" } : Jvm.MethodName) object_method_1_code (1 : Nat) (Option.none : Option Jvm.ClassFile.FieldType)) ∈ lw_all := lw_g (lw_at lw_m1 10 rfl) rfl
theorem q23 : (Jvm.Cond.initialized "CoroutineFramesModel") ∈ lw_all := lw_g (lw_at lw_m1 2 rfl) rfl
theorem q193 : (Jvm.Cond.instantiable "CoroutineFramesModel" (12 : Nat)) ∈ lw_all := lw_g (lw_at lw_m1 172 rfl) rfl
theorem q195 : (Jvm.Cond.instanceMethod ({ cls := "CoroutineFramesModel", name := "<init>", desc := "()V" } : Jvm.MethodName)) ∈ lw_all := lw_g (lw_at lw_m1 174 rfl) rfl
theorem q196 : (Jvm.Cond.code ({ cls := "CoroutineFramesModel", name := "<init>", desc := "()V" } : Jvm.MethodName) prog_3_method_1_code (1 : Nat) (Option.none : Option Jvm.ClassFile.FieldType)) ∈ lw_all := lw_g (lw_at lw_m1 175 rfl) rfl
theorem q197 : (Jvm.Cond.methodLink "CoroutineFramesModel" (1 : Nat) ({ cls := "java/lang/Object", name := "<init>", desc := "()V" } : Jvm.MethodName)) ∈ lw_all := lw_g (lw_at lw_m1 176 rfl) rfl
theorem q198 : (Jvm.Cond.fieldLink "CoroutineFramesModel" (7 : Nat) "CoroutineFramesModel" "sizes" "[I") ∈ lw_all := lw_g (lw_at lw_m1 177 rfl) rfl
theorem q199 : (Jvm.Cond.fieldLink "CoroutineFramesModel" (13 : Nat) "CoroutineFramesModel" "ops" "[I") ∈ lw_all := lw_g (lw_at lw_m1 178 rfl) rfl
theorem q200 : (Jvm.Cond.fieldLink "CoroutineFramesModel" (16 : Nat) "CoroutineFramesModel" "regs" "[I") ∈ lw_all := lw_g (lw_at lw_m1 179 rfl) rfl
theorem q201 : (Jvm.Cond.fieldLink "CoroutineFramesModel" (19 : Nat) "CoroutineFramesModel" "cs" "[I") ∈ lw_all := lw_g (lw_at lw_m1 180 rfl) rfl
theorem q202 : (Jvm.Cond.fieldLink "CoroutineFramesModel" (22 : Nat) "CoroutineFramesModel" "states" "[I") ∈ lw_all := lw_g (lw_at lw_m1 181 rfl) rfl
theorem q203 : (Jvm.Cond.fieldLink "CoroutineFramesModel" (25 : Nat) "CoroutineFramesModel" "values" "[I") ∈ lw_all := lw_g (lw_at lw_m1 182 rfl) rfl
theorem q204 : (Jvm.Cond.fieldLink "CoroutineFramesModel" (28 : Nat) "CoroutineFramesModel" "steps" "[I") ∈ lw_all := lw_g (lw_at lw_m1 183 rfl) rfl
theorem q205 : (Jvm.Cond.fieldLink "CoroutineFramesModel" (31 : Nat) "CoroutineFramesModel" "depths" "[I") ∈ lw_all := lw_g (lw_at lw_m1 184 rfl) rfl
theorem q206 : (Jvm.Cond.fieldLink "CoroutineFramesModel" (34 : Nat) "CoroutineFramesModel" "functions" "[I") ∈ lw_all := lw_g (lw_at lw_m1 185 rfl) rfl
theorem q207 : (Jvm.Cond.fieldLink "CoroutineFramesModel" (37 : Nat) "CoroutineFramesModel" "at" "[I") ∈ lw_all := lw_g (lw_at lw_m1 186 rfl) rfl
theorem q208 : (Jvm.Cond.fieldLink "CoroutineFramesModel" (40 : Nat) "CoroutineFramesModel" "gets" "[I") ∈ lw_all := lw_g (lw_at lw_m1 187 rfl) rfl
theorem q209 : (Jvm.Cond.fieldLink "CoroutineFramesModel" (43 : Nat) "CoroutineFramesModel" fd_r "[I") ∈ lw_all := lw_g (lw_at lw_m1 188 rfl) rfl
theorem q210 : (Jvm.Cond.laysFinal "CoroutineFramesModel" "CoroutineFramesModel" "sizes" "[I") ∈ lw_all := lw_g (lw_at lw_m1 189 rfl) rfl
theorem q211 : (Jvm.Cond.soleField "CoroutineFramesModel" "sizes") ∈ lw_all := lw_g (lw_at lw_m1 190 rfl) rfl
theorem q212 : (Jvm.Cond.laysFinal "CoroutineFramesModel" "CoroutineFramesModel" "ops" "[I") ∈ lw_all := lw_g (lw_at lw_m1 191 rfl) rfl
theorem q213 : (Jvm.Cond.soleField "CoroutineFramesModel" "ops") ∈ lw_all := lw_g (lw_at lw_m1 192 rfl) rfl
theorem q214 : (Jvm.Cond.laysFinal "CoroutineFramesModel" "CoroutineFramesModel" "regs" "[I") ∈ lw_all := lw_g (lw_at lw_m1 193 rfl) rfl
theorem q215 : (Jvm.Cond.soleField "CoroutineFramesModel" "regs") ∈ lw_all := lw_g (lw_at lw_m1 194 rfl) rfl
theorem q216 : (Jvm.Cond.laysFinal "CoroutineFramesModel" "CoroutineFramesModel" "cs" "[I") ∈ lw_all := lw_g (lw_at lw_m1 195 rfl) rfl
theorem q217 : (Jvm.Cond.soleField "CoroutineFramesModel" "cs") ∈ lw_all := lw_g (lw_at lw_m1 196 rfl) rfl
theorem q218 : (Jvm.Cond.laysFinal "CoroutineFramesModel" "CoroutineFramesModel" "states" "[I") ∈ lw_all := lw_g (lw_at lw_m1 197 rfl) rfl
theorem q219 : (Jvm.Cond.soleField "CoroutineFramesModel" "states") ∈ lw_all := lw_g (lw_at lw_m1 198 rfl) rfl
theorem q220 : (Jvm.Cond.laysFinal "CoroutineFramesModel" "CoroutineFramesModel" "values" "[I") ∈ lw_all := lw_g (lw_at lw_m1 199 rfl) rfl
theorem q221 : (Jvm.Cond.soleField "CoroutineFramesModel" "values") ∈ lw_all := lw_g (lw_at lw_m1 200 rfl) rfl
theorem q222 : (Jvm.Cond.laysFinal "CoroutineFramesModel" "CoroutineFramesModel" "steps" "[I") ∈ lw_all := lw_g (lw_at lw_m1 201 rfl) rfl
theorem q223 : (Jvm.Cond.soleField "CoroutineFramesModel" "steps") ∈ lw_all := lw_g (lw_at lw_m1 202 rfl) rfl
theorem q224 : (Jvm.Cond.laysFinal "CoroutineFramesModel" "CoroutineFramesModel" "depths" "[I") ∈ lw_all := lw_g (lw_at lw_m1 203 rfl) rfl
theorem q225 : (Jvm.Cond.soleField "CoroutineFramesModel" "depths") ∈ lw_all := lw_g (lw_at lw_m1 204 rfl) rfl
theorem q226 : (Jvm.Cond.laysFinal "CoroutineFramesModel" "CoroutineFramesModel" "functions" "[I") ∈ lw_all := lw_g (lw_at lw_m1 205 rfl) rfl
theorem q227 : (Jvm.Cond.soleField "CoroutineFramesModel" "functions") ∈ lw_all := lw_g (lw_at lw_m1 206 rfl) rfl
theorem q228 : (Jvm.Cond.laysFinal "CoroutineFramesModel" "CoroutineFramesModel" "at" "[I") ∈ lw_all := lw_g (lw_at lw_m1 207 rfl) rfl
theorem q229 : (Jvm.Cond.soleField "CoroutineFramesModel" "at") ∈ lw_all := lw_g (lw_at lw_m1 208 rfl) rfl
theorem q230 : (Jvm.Cond.laysFinal "CoroutineFramesModel" "CoroutineFramesModel" "gets" "[I") ∈ lw_all := lw_g (lw_at lw_m1 209 rfl) rfl
theorem q231 : (Jvm.Cond.soleField "CoroutineFramesModel" "gets") ∈ lw_all := lw_g (lw_at lw_m1 210 rfl) rfl
theorem q232 : (Jvm.Cond.laysFinal "CoroutineFramesModel" "CoroutineFramesModel" fd_r "[I") ∈ lw_all := lw_g (lw_at lw_m1 211 rfl) rfl
theorem q233 : (Jvm.Cond.soleField "CoroutineFramesModel" fd_r) ∈ lw_all := lw_g (lw_at lw_m1 212 rfl) rfl
theorem q234 : (Jvm.Cond.superclass "CoroutineFramesModel" "java/lang/Object") ∈ lw_all := lw_g (lw_at lw_m1 213 rfl) rfl
theorem q236 : (Jvm.Cond.instanceMethod ({ cls := "CoroutineFramesModel", name := "emit", desc := "(IIII)I" } : Jvm.MethodName)) ∈ lw_all := lw_g (lw_at lw_m1 215 rfl) rfl
theorem q237 : (Jvm.Cond.selects "CoroutineFramesModel" ({ cls := "CoroutineFramesModel", name := "emit", desc := "(IIII)I" } : Jvm.MethodName) ({ cls := "CoroutineFramesModel", name := "emit", desc := "(IIII)I" } : Jvm.MethodName)) ∈ lw_all := lw_g (lw_at lw_m1 216 rfl) rfl
theorem q238 : (Jvm.Cond.code ({ cls := "CoroutineFramesModel", name := "emit", desc := "(IIII)I" } : Jvm.MethodName) prog_3_method_3_code (6 : Nat) (Option.some Jvm.ClassFile.FieldType.int)) ∈ lw_all := lw_g (lw_at lw_m1 217 rfl) rfl
theorem q240 : (Jvm.Cond.instanceMethod ({ cls := "CoroutineFramesModel", name := "start", desc := "(III)I" } : Jvm.MethodName)) ∈ lw_all := lw_g (lw_at lw_m1 219 rfl) rfl
theorem q241 : (Jvm.Cond.selects "CoroutineFramesModel" ({ cls := "CoroutineFramesModel", name := "start", desc := "(III)I" } : Jvm.MethodName) ({ cls := "CoroutineFramesModel", name := "start", desc := "(III)I" } : Jvm.MethodName)) ∈ lw_all := lw_g (lw_at lw_m1 220 rfl) rfl
theorem q242 : (Jvm.Cond.code ({ cls := "CoroutineFramesModel", name := "start", desc := "(III)I" } : Jvm.MethodName) prog_3_method_5_code (4 : Nat) (Option.some Jvm.ClassFile.FieldType.int)) ∈ lw_all := lw_g (lw_at lw_m1 221 rfl) rfl
theorem q243 : (Jvm.Cond.methodLink "CoroutineFramesModel" (46 : Nat) ({ cls := "CoroutineFramesModel", name := "badCo", desc := "(I)Z" } : Jvm.MethodName)) ∈ lw_all := lw_g (lw_at lw_m1 222 rfl) rfl
theorem q244 : (Jvm.Cond.privateMethod ({ cls := "CoroutineFramesModel", name := "badCo", desc := "(I)Z" } : Jvm.MethodName)) ∈ lw_tbl := lw_at lw_m1 223 rfl
theorem q245 : (Jvm.Cond.instanceMethod ({ cls := "CoroutineFramesModel", name := "badCo", desc := "(I)Z" } : Jvm.MethodName)) ∈ lw_all := lw_g (lw_at lw_m1 224 rfl) rfl
theorem q246 : (Jvm.Cond.code ({ cls := "CoroutineFramesModel", name := "badCo", desc := "(I)Z" } : Jvm.MethodName) prog_3_method_2_code (2 : Nat) (Option.some Jvm.ClassFile.FieldType.boolean)) ∈ lw_all := lw_g (lw_at lw_m1 225 rfl) rfl
theorem q247 : (Jvm.Cond.methodLink "CoroutineFramesModel" (50 : Nat) ({ cls := "CoroutineFramesModel", name := "push", desc := "(III)V" } : Jvm.MethodName)) ∈ lw_all := lw_g (lw_at lw_m1 226 rfl) rfl
theorem q248 : (Jvm.Cond.privateMethod ({ cls := "CoroutineFramesModel", name := "push", desc := "(III)V" } : Jvm.MethodName)) ∈ lw_tbl := lw_at lw_m1 227 rfl
theorem q249 : (Jvm.Cond.instanceMethod ({ cls := "CoroutineFramesModel", name := "push", desc := "(III)V" } : Jvm.MethodName)) ∈ lw_all := lw_g (lw_at lw_m1 228 rfl) rfl
theorem q250 : (Jvm.Cond.code ({ cls := "CoroutineFramesModel", name := "push", desc := "(III)V" } : Jvm.MethodName) prog_3_method_4_code (5 : Nat) (Option.none : Option Jvm.ClassFile.FieldType)) ∈ lw_all := lw_g (lw_at lw_m1 229 rfl) rfl
theorem q252 : (Jvm.Cond.instanceMethod ({ cls := "CoroutineFramesModel", name := "resume", desc := "(II)I" } : Jvm.MethodName)) ∈ lw_all := lw_g (lw_at lw_m1 231 rfl) rfl
theorem q253 : (Jvm.Cond.selects "CoroutineFramesModel" ({ cls := "CoroutineFramesModel", name := "resume", desc := "(II)I" } : Jvm.MethodName) ({ cls := "CoroutineFramesModel", name := "resume", desc := "(II)I" } : Jvm.MethodName)) ∈ lw_all := lw_g (lw_at lw_m1 232 rfl) rfl
theorem q254 : (Jvm.Cond.code ({ cls := "CoroutineFramesModel", name := "resume", desc := "(II)I" } : Jvm.MethodName) prog_3_method_10_code (4 : Nat) (Option.some Jvm.ClassFile.FieldType.int)) ∈ lw_all := lw_g (lw_at lw_m1 233 rfl) rfl
theorem q255 : (Jvm.Cond.methodLink "CoroutineFramesModel" (61 : Nat) ({ cls := "CoroutineFramesModel", name := "fallOff", desc := "(I)V" } : Jvm.MethodName)) ∈ lw_all := lw_g (lw_at lw_m1 234 rfl) rfl
theorem q256 : (Jvm.Cond.privateMethod ({ cls := "CoroutineFramesModel", name := "fallOff", desc := "(I)V" } : Jvm.MethodName)) ∈ lw_tbl := lw_at lw_m1 235 rfl
theorem q257 : (Jvm.Cond.instanceMethod ({ cls := "CoroutineFramesModel", name := "fallOff", desc := "(I)V" } : Jvm.MethodName)) ∈ lw_all := lw_g (lw_at lw_m1 236 rfl) rfl
theorem q258 : (Jvm.Cond.code ({ cls := "CoroutineFramesModel", name := "fallOff", desc := "(I)V" } : Jvm.MethodName) prog_3_method_9_code (4 : Nat) (Option.none : Option Jvm.ClassFile.FieldType)) ∈ lw_all := lw_g (lw_at lw_m1 237 rfl) rfl
theorem q259 : (Jvm.Cond.methodLink "CoroutineFramesModel" (57 : Nat) ({ cls := "CoroutineFramesModel", name := "back", desc := "(II)V" } : Jvm.MethodName)) ∈ lw_all := lw_g (lw_at lw_m1 238 rfl) rfl
theorem q260 : (Jvm.Cond.privateMethod ({ cls := "CoroutineFramesModel", name := "back", desc := "(II)V" } : Jvm.MethodName)) ∈ lw_tbl := lw_at lw_m1 239 rfl
theorem q261 : (Jvm.Cond.instanceMethod ({ cls := "CoroutineFramesModel", name := "back", desc := "(II)V" } : Jvm.MethodName)) ∈ lw_all := lw_g (lw_at lw_m2 0 rfl) rfl
theorem q262 : (Jvm.Cond.code ({ cls := "CoroutineFramesModel", name := "back", desc := "(II)V" } : Jvm.MethodName) prog_3_method_7_code (4 : Nat) (Option.none : Option Jvm.ClassFile.FieldType)) ∈ lw_all := lw_g (lw_at lw_m2 1 rfl) rfl
theorem q263 : (Jvm.Cond.methodLink "CoroutineFramesModel" (54 : Nat) ({ cls := "CoroutineFramesModel", name := "end", desc := "(III)V" } : Jvm.MethodName)) ∈ lw_all := lw_g (lw_at lw_m2 2 rfl) rfl
theorem q264 : (Jvm.Cond.privateMethod ({ cls := "CoroutineFramesModel", name := "end", desc := "(III)V" } : Jvm.MethodName)) ∈ lw_tbl := lw_at lw_m2 3 rfl
theorem q265 : (Jvm.Cond.instanceMethod ({ cls := "CoroutineFramesModel", name := "end", desc := "(III)V" } : Jvm.MethodName)) ∈ lw_all := lw_g (lw_at lw_m2 4 rfl) rfl
theorem q266 : (Jvm.Cond.code ({ cls := "CoroutineFramesModel", name := "end", desc := "(III)V" } : Jvm.MethodName) prog_3_method_6_code (4 : Nat) (Option.none : Option Jvm.ClassFile.FieldType)) ∈ lw_all := lw_g (lw_at lw_m2 5 rfl) rfl
theorem q267 : (Jvm.Cond.methodLink "CoroutineFramesModel" (65 : Nat) ({ cls := "CoroutineFramesModel", name := "carryOut", desc := "(I)V" } : Jvm.MethodName)) ∈ lw_all := lw_g (lw_at lw_m2 6 rfl) rfl
theorem q268 : (Jvm.Cond.privateMethod ({ cls := "CoroutineFramesModel", name := "carryOut", desc := "(I)V" } : Jvm.MethodName)) ∈ lw_tbl := lw_at lw_m2 7 rfl
theorem q269 : (Jvm.Cond.instanceMethod ({ cls := "CoroutineFramesModel", name := "carryOut", desc := "(I)V" } : Jvm.MethodName)) ∈ lw_all := lw_g (lw_at lw_m2 8 rfl) rfl
theorem q270 : (Jvm.Cond.code ({ cls := "CoroutineFramesModel", name := "carryOut", desc := "(I)V" } : Jvm.MethodName) prog_3_method_8_code (10 : Nat) (Option.none : Option Jvm.ClassFile.FieldType)) ∈ lw_all := lw_g (lw_at lw_m2 9 rfl) rfl
theorem q272 : (Jvm.Cond.instanceMethod ({ cls := "CoroutineFramesModel", name := "echo", desc := "(II)I" } : Jvm.MethodName)) ∈ lw_all := lw_g (lw_at lw_m2 11 rfl) rfl
theorem q273 : (Jvm.Cond.selects "CoroutineFramesModel" ({ cls := "CoroutineFramesModel", name := "echo", desc := "(II)I" } : Jvm.MethodName) ({ cls := "CoroutineFramesModel", name := "echo", desc := "(II)I" } : Jvm.MethodName)) ∈ lw_all := lw_g (lw_at lw_m2 12 rfl) rfl
theorem q274 : (Jvm.Cond.code ({ cls := "CoroutineFramesModel", name := "echo", desc := "(II)I" } : Jvm.MethodName) prog_3_method_11_code (5 : Nat) (Option.some Jvm.ClassFile.FieldType.int)) ∈ lw_all := lw_g (lw_at lw_m2 13 rfl) rfl
theorem q275 : (Jvm.Cond.methodLink "CoroutineFramesModel" (68 : Nat) ({ cls := "CoroutineFramesModel", name := "resume", desc := "(II)I" } : Jvm.MethodName)) ∈ lw_all := lw_g (lw_at lw_m2 14 rfl) rfl
theorem q277 : (Jvm.Cond.instanceMethod ({ cls := "CoroutineFramesModel", name := "copy", desc := "(II)I" } : Jvm.MethodName)) ∈ lw_all := lw_g (lw_at lw_m2 16 rfl) rfl
theorem q278 : (Jvm.Cond.selects "CoroutineFramesModel" ({ cls := "CoroutineFramesModel", name := "copy", desc := "(II)I" } : Jvm.MethodName) ({ cls := "CoroutineFramesModel", name := "copy", desc := "(II)I" } : Jvm.MethodName)) ∈ lw_all := lw_g (lw_at lw_m2 17 rfl) rfl
theorem q279 : (Jvm.Cond.code ({ cls := "CoroutineFramesModel", name := "copy", desc := "(II)I" } : Jvm.MethodName) prog_3_method_12_code (4 : Nat) (Option.some Jvm.ClassFile.FieldType.int)) ∈ lw_all := lw_g (lw_at lw_m2 18 rfl) rfl
theorem q281 : (Jvm.Cond.instanceMethod ({ cls := "CoroutineFramesModel", name := "drop", desc := "(I)I" } : Jvm.MethodName)) ∈ lw_all := lw_g (lw_at lw_m2 20 rfl) rfl
theorem q282 : (Jvm.Cond.selects "CoroutineFramesModel" ({ cls := "CoroutineFramesModel", name := "drop", desc := "(I)I" } : Jvm.MethodName) ({ cls := "CoroutineFramesModel", name := "drop", desc := "(I)I" } : Jvm.MethodName)) ∈ lw_all := lw_g (lw_at lw_m2 21 rfl) rfl
theorem q283 : (Jvm.Cond.code ({ cls := "CoroutineFramesModel", name := "drop", desc := "(I)I" } : Jvm.MethodName) prog_3_method_13_code (3 : Nat) (Option.some Jvm.ClassFile.FieldType.int)) ∈ lw_all := lw_g (lw_at lw_m2 22 rfl) rfl
theorem q285 : (Jvm.Cond.instanceMethod ({ cls := "CoroutineFramesModel", name := "state", desc := "(I)I" } : Jvm.MethodName)) ∈ lw_all := lw_g (lw_at lw_m2 24 rfl) rfl
theorem q286 : (Jvm.Cond.selects "CoroutineFramesModel" ({ cls := "CoroutineFramesModel", name := "state", desc := "(I)I" } : Jvm.MethodName) ({ cls := "CoroutineFramesModel", name := "state", desc := "(I)I" } : Jvm.MethodName)) ∈ lw_all := lw_g (lw_at lw_m2 25 rfl) rfl
theorem q287 : (Jvm.Cond.code ({ cls := "CoroutineFramesModel", name := "state", desc := "(I)I" } : Jvm.MethodName) prog_3_method_14_code (2 : Nat) (Option.some Jvm.ClassFile.FieldType.int)) ∈ lw_all := lw_g (lw_at lw_m2 26 rfl) rfl
theorem q289 : (Jvm.Cond.instanceMethod ({ cls := "CoroutineFramesModel", name := "value", desc := "(I)I" } : Jvm.MethodName)) ∈ lw_all := lw_g (lw_at lw_m2 28 rfl) rfl
theorem q290 : (Jvm.Cond.selects "CoroutineFramesModel" ({ cls := "CoroutineFramesModel", name := "value", desc := "(I)I" } : Jvm.MethodName) ({ cls := "CoroutineFramesModel", name := "value", desc := "(I)I" } : Jvm.MethodName)) ∈ lw_all := lw_g (lw_at lw_m2 29 rfl) rfl
theorem q291 : (Jvm.Cond.code ({ cls := "CoroutineFramesModel", name := "value", desc := "(I)I" } : Jvm.MethodName) prog_3_method_15_code (2 : Nat) (Option.some Jvm.ClassFile.FieldType.int)) ∈ lw_all := lw_g (lw_at lw_m2 30 rfl) rfl
theorem q293 : (Jvm.Cond.instanceMethod ({ cls := "CoroutineFramesModel", name := "depth", desc := "(I)I" } : Jvm.MethodName)) ∈ lw_all := lw_g (lw_at lw_m2 32 rfl) rfl
theorem q294 : (Jvm.Cond.selects "CoroutineFramesModel" ({ cls := "CoroutineFramesModel", name := "depth", desc := "(I)I" } : Jvm.MethodName) ({ cls := "CoroutineFramesModel", name := "depth", desc := "(I)I" } : Jvm.MethodName)) ∈ lw_all := lw_g (lw_at lw_m2 33 rfl) rfl
theorem q295 : (Jvm.Cond.code ({ cls := "CoroutineFramesModel", name := "depth", desc := "(I)I" } : Jvm.MethodName) prog_3_method_16_code (2 : Nat) (Option.some Jvm.ClassFile.FieldType.int)) ∈ lw_all := lw_g (lw_at lw_m2 34 rfl) rfl
theorem q297 : (Jvm.Cond.instanceMethod ({ cls := "CoroutineFramesModel", name := "alike", desc := "(II)Z" } : Jvm.MethodName)) ∈ lw_all := lw_g (lw_at lw_m2 36 rfl) rfl
theorem q298 : (Jvm.Cond.selects "CoroutineFramesModel" ({ cls := "CoroutineFramesModel", name := "alike", desc := "(II)Z" } : Jvm.MethodName) ({ cls := "CoroutineFramesModel", name := "alike", desc := "(II)Z" } : Jvm.MethodName)) ∈ lw_all := lw_g (lw_at lw_m2 37 rfl) rfl
theorem q299 : (Jvm.Cond.code ({ cls := "CoroutineFramesModel", name := "alike", desc := "(II)Z" } : Jvm.MethodName) prog_3_method_17_code (3 : Nat) (Option.some Jvm.ClassFile.FieldType.boolean)) ∈ lw_all := lw_g (lw_at lw_m2 38 rfl) rfl
theorem q301 : (Jvm.Cond.instanceMethod ({ cls := "CoroutineFramesModel", name := "steps", desc := "(I)I" } : Jvm.MethodName)) ∈ lw_all := lw_g (lw_at lw_m2 40 rfl) rfl
theorem q302 : (Jvm.Cond.selects "CoroutineFramesModel" ({ cls := "CoroutineFramesModel", name := "steps", desc := "(I)I" } : Jvm.MethodName) ({ cls := "CoroutineFramesModel", name := "steps", desc := "(I)I" } : Jvm.MethodName)) ∈ lw_all := lw_g (lw_at lw_m2 41 rfl) rfl
theorem q303 : (Jvm.Cond.code ({ cls := "CoroutineFramesModel", name := "steps", desc := "(I)I" } : Jvm.MethodName) prog_3_method_18_code (2 : Nat) (Option.some Jvm.ClassFile.FieldType.int)) ∈ lw_all := lw_g (lw_at lw_m2 42 rfl) rfl
theorem in_X1 : ∀ w ∈ wsX10, w ∈ lw_all := lw_in wsX10 [210, 212, 214, 216, 218, 220, 222, 224, 226, 228, 230, 232] (by decide +kernel) (by decide +kernel)
theorem q21 : (Jvm.Cond.initialized "CoroutineFramesLaw") ∈ lw_all := lw_g (lw_at lw_m1 0 rfl) rfl
theorem q24 : (Jvm.Cond.classLink "CoroutineFramesLaw" (7 : Nat) "CoroutineFrames") ∈ lw_all := lw_g (lw_at lw_m1 3 rfl) rfl
theorem q26 : (Jvm.Cond.methodLink "CoroutineFramesLaw" (9 : Nat) ({ cls := "CoroutineFrames", name := "<init>", desc := "()V" } : Jvm.MethodName)) ∈ lw_all := lw_g (lw_at lw_m1 5 rfl) rfl
theorem q85 : (Jvm.Cond.methodLink "CoroutineFramesLaw" (13 : Nat) ({ cls := "CoroutineFrames", name := "emit", desc := "(IIII)I" } : Jvm.MethodName)) ∈ lw_all := lw_g (lw_at lw_m1 64 rfl) rfl
theorem q89 : (Jvm.Cond.methodLink "CoroutineFramesLaw" (18 : Nat) ({ cls := "CoroutineFrames", name := "start", desc := "(III)I" } : Jvm.MethodName)) ∈ lw_all := lw_g (lw_at lw_m1 68 rfl) rfl
theorem q96 : (Jvm.Cond.methodLink "CoroutineFramesLaw" (23 : Nat) ({ cls := "CoroutineFrames", name := "resume", desc := "(II)I" } : Jvm.MethodName)) ∈ lw_all := lw_g (lw_at lw_m1 75 rfl) rfl
theorem q160 : (Jvm.Cond.methodLink "CoroutineFramesLaw" (28 : Nat) ({ cls := "CoroutineFrames", name := "echo", desc := "(II)I" } : Jvm.MethodName)) ∈ lw_all := lw_g (lw_at lw_m1 139 rfl) rfl
theorem q164 : (Jvm.Cond.methodLink "CoroutineFramesLaw" (32 : Nat) ({ cls := "CoroutineFrames", name := "copy", desc := "(II)I" } : Jvm.MethodName)) ∈ lw_all := lw_g (lw_at lw_m1 143 rfl) rfl
theorem q168 : (Jvm.Cond.methodLink "CoroutineFramesLaw" (36 : Nat) ({ cls := "CoroutineFrames", name := "drop", desc := "(I)I" } : Jvm.MethodName)) ∈ lw_all := lw_g (lw_at lw_m1 147 rfl) rfl
theorem q172 : (Jvm.Cond.methodLink "CoroutineFramesLaw" (41 : Nat) ({ cls := "CoroutineFrames", name := "state", desc := "(I)I" } : Jvm.MethodName)) ∈ lw_all := lw_g (lw_at lw_m1 151 rfl) rfl
theorem q176 : (Jvm.Cond.methodLink "CoroutineFramesLaw" (45 : Nat) ({ cls := "CoroutineFrames", name := "value", desc := "(I)I" } : Jvm.MethodName)) ∈ lw_all := lw_g (lw_at lw_m1 155 rfl) rfl
theorem q180 : (Jvm.Cond.methodLink "CoroutineFramesLaw" (49 : Nat) ({ cls := "CoroutineFrames", name := "depth", desc := "(I)I" } : Jvm.MethodName)) ∈ lw_all := lw_g (lw_at lw_m1 159 rfl) rfl
theorem q184 : (Jvm.Cond.methodLink "CoroutineFramesLaw" (53 : Nat) ({ cls := "CoroutineFrames", name := "alike", desc := "(II)Z" } : Jvm.MethodName)) ∈ lw_all := lw_g (lw_at lw_m1 163 rfl) rfl
theorem q188 : (Jvm.Cond.methodLink "CoroutineFramesLaw" (58 : Nat) ({ cls := "CoroutineFrames", name := "steps", desc := "(I)I" } : Jvm.MethodName)) ∈ lw_all := lw_g (lw_at lw_m1 167 rfl) rfl
theorem q192 : (Jvm.Cond.classLink "CoroutineFramesLaw" (10 : Nat) "CoroutineFramesModel") ∈ lw_all := lw_g (lw_at lw_m1 171 rfl) rfl
theorem q194 : (Jvm.Cond.methodLink "CoroutineFramesLaw" (12 : Nat) ({ cls := "CoroutineFramesModel", name := "<init>", desc := "()V" } : Jvm.MethodName)) ∈ lw_all := lw_g (lw_at lw_m1 173 rfl) rfl
theorem q235 : (Jvm.Cond.methodLink "CoroutineFramesLaw" (17 : Nat) ({ cls := "CoroutineFramesModel", name := "emit", desc := "(IIII)I" } : Jvm.MethodName)) ∈ lw_all := lw_g (lw_at lw_m1 214 rfl) rfl
theorem q239 : (Jvm.Cond.methodLink "CoroutineFramesLaw" (22 : Nat) ({ cls := "CoroutineFramesModel", name := "start", desc := "(III)I" } : Jvm.MethodName)) ∈ lw_all := lw_g (lw_at lw_m1 218 rfl) rfl
theorem q251 : (Jvm.Cond.methodLink "CoroutineFramesLaw" (27 : Nat) ({ cls := "CoroutineFramesModel", name := "resume", desc := "(II)I" } : Jvm.MethodName)) ∈ lw_all := lw_g (lw_at lw_m1 230 rfl) rfl
theorem q271 : (Jvm.Cond.methodLink "CoroutineFramesLaw" (31 : Nat) ({ cls := "CoroutineFramesModel", name := "echo", desc := "(II)I" } : Jvm.MethodName)) ∈ lw_all := lw_g (lw_at lw_m2 10 rfl) rfl
theorem q276 : (Jvm.Cond.methodLink "CoroutineFramesLaw" (35 : Nat) ({ cls := "CoroutineFramesModel", name := "copy", desc := "(II)I" } : Jvm.MethodName)) ∈ lw_all := lw_g (lw_at lw_m2 15 rfl) rfl
theorem q280 : (Jvm.Cond.methodLink "CoroutineFramesLaw" (40 : Nat) ({ cls := "CoroutineFramesModel", name := "drop", desc := "(I)I" } : Jvm.MethodName)) ∈ lw_all := lw_g (lw_at lw_m2 19 rfl) rfl
theorem q284 : (Jvm.Cond.methodLink "CoroutineFramesLaw" (44 : Nat) ({ cls := "CoroutineFramesModel", name := "state", desc := "(I)I" } : Jvm.MethodName)) ∈ lw_all := lw_g (lw_at lw_m2 23 rfl) rfl
theorem q288 : (Jvm.Cond.methodLink "CoroutineFramesLaw" (48 : Nat) ({ cls := "CoroutineFramesModel", name := "value", desc := "(I)I" } : Jvm.MethodName)) ∈ lw_all := lw_g (lw_at lw_m2 27 rfl) rfl
theorem q292 : (Jvm.Cond.methodLink "CoroutineFramesLaw" (52 : Nat) ({ cls := "CoroutineFramesModel", name := "depth", desc := "(I)I" } : Jvm.MethodName)) ∈ lw_all := lw_g (lw_at lw_m2 31 rfl) rfl
theorem q296 : (Jvm.Cond.methodLink "CoroutineFramesLaw" (57 : Nat) ({ cls := "CoroutineFramesModel", name := "alike", desc := "(II)Z" } : Jvm.MethodName)) ∈ lw_all := lw_g (lw_at lw_m2 35 rfl) rfl
theorem q300 : (Jvm.Cond.methodLink "CoroutineFramesLaw" (61 : Nat) ({ cls := "CoroutineFramesModel", name := "steps", desc := "(I)I" } : Jvm.MethodName)) ∈ lw_all := lw_g (lw_at lw_m2 39 rfl) rfl
theorem q84 : (Jvm.Cond.arrayClass Jvm.ClassFile.FieldType.int) ∈ lw_all := lw_g (lw_at lw_m1 63 rfl) rfl
end
section
set_option maxRecDepth 100000
theorem dX0_init_0 : decode cX0_init 0 = .ok (.aload_n 0, 1) := by decide +kernel
theorem dX0_init_1 : decode cX0_init 1 = .ok (.invokespecial 1, 3) := by decide +kernel
theorem dX0_init_4 : decode cX0_init 4 = .ok (.aload_n 0, 1) := by decide +kernel
theorem dX0_init_5 : decode cX0_init 5 = .ok (.iconst 3, 1) := by decide +kernel
theorem dX0_init_6 : decode cX0_init 6 = .ok (.newarray .int, 2) := by decide +kernel
theorem dX0_init_8 : decode cX0_init 8 = .ok (.putfield 7, 3) := by decide +kernel
theorem dX0_init_11 : decode cX0_init 11 = .ok (.aload_n 0, 1) := by decide +kernel
theorem dX0_init_12 : decode cX0_init 12 = .ok (.bipush 24, 2) := by decide +kernel
theorem dX0_init_14 : decode cX0_init 14 = .ok (.newarray .int, 2) := by decide +kernel
theorem dX0_init_16 : decode cX0_init 16 = .ok (.putfield 13, 3) := by decide +kernel
theorem dX0_init_19 : decode cX0_init 19 = .ok (.aload_n 0, 1) := by decide +kernel
theorem dX0_init_20 : decode cX0_init 20 = .ok (.bipush 24, 2) := by decide +kernel
theorem dX0_init_22 : decode cX0_init 22 = .ok (.newarray .int, 2) := by decide +kernel
theorem dX0_init_24 : decode cX0_init 24 = .ok (.putfield 16, 3) := by decide +kernel
theorem dX0_init_27 : decode cX0_init 27 = .ok (.aload_n 0, 1) := by decide +kernel
theorem dX0_init_28 : decode cX0_init 28 = .ok (.bipush 24, 2) := by decide +kernel
theorem dX0_init_30 : decode cX0_init 30 = .ok (.newarray .int, 2) := by decide +kernel
theorem dX0_init_32 : decode cX0_init 32 = .ok (.putfield 19, 3) := by decide +kernel
theorem dX0_init_35 : decode cX0_init 35 = .ok (.aload_n 0, 1) := by decide +kernel
theorem dX0_init_36 : decode cX0_init 36 = .ok (.bipush 24, 2) := by decide +kernel
theorem dX0_init_38 : decode cX0_init 38 = .ok (.newarray .int, 2) := by decide +kernel
theorem dX0_init_40 : decode cX0_init 40 = .ok (.putfield 22, 3) := by decide +kernel
theorem dX0_init_43 : decode cX0_init 43 = .ok (.aload_n 0, 1) := by decide +kernel
theorem dX0_init_44 : decode cX0_init 44 = .ok (.bipush 27, 2) := by decide +kernel
theorem dX0_init_46 : decode cX0_init 46 = .ok (.newarray .int, 2) := by decide +kernel
theorem dX0_init_48 : decode cX0_init 48 = .ok (.putfield 25, 3) := by decide +kernel
theorem dX0_init_51 : decode cX0_init 51 = .ok (.aload_n 0, 1) := by decide +kernel
theorem dX0_init_52 : decode cX0_init 52 = .ok (.iconst 4, 1) := by decide +kernel
theorem dX0_init_53 : decode cX0_init 53 = .ok (.newarray .int, 2) := by decide +kernel
theorem dX0_init_55 : decode cX0_init 55 = .ok (.putfield 28, 3) := by decide +kernel
theorem dX0_init_58 : decode cX0_init 58 = .ok (.aload_n 0, 1) := by decide +kernel
theorem dX0_init_59 : decode cX0_init 59 = .ok (.iconst 4, 1) := by decide +kernel
theorem dX0_init_60 : decode cX0_init 60 = .ok (.newarray .int, 2) := by decide +kernel
theorem dX0_init_62 : decode cX0_init 62 = .ok (.putfield 31, 3) := by decide +kernel
theorem dX0_init_65 : decode cX0_init 65 = .ok (.aload_n 0, 1) := by decide +kernel
theorem dX0_init_66 : decode cX0_init 66 = .ok (.iconst 4, 1) := by decide +kernel
theorem dX0_init_67 : decode cX0_init 67 = .ok (.newarray .int, 2) := by decide +kernel
theorem dX0_init_69 : decode cX0_init 69 = .ok (.putfield 34, 3) := by decide +kernel
theorem dX0_init_72 : decode cX0_init 72 = .ok (.aload_n 0, 1) := by decide +kernel
theorem dX0_init_73 : decode cX0_init 73 = .ok (.iconst 4, 1) := by decide +kernel
theorem dX0_init_74 : decode cX0_init 74 = .ok (.newarray .int, 2) := by decide +kernel
theorem dX0_init_76 : decode cX0_init 76 = .ok (.putfield 37, 3) := by decide +kernel
theorem dX0_init_79 : decode cX0_init 79 = .ok (.aload_n 0, 1) := by decide +kernel
theorem dX0_init_80 : decode cX0_init 80 = .ok (.bipush 16, 2) := by decide +kernel
theorem dX0_init_82 : decode cX0_init 82 = .ok (.newarray .int, 2) := by decide +kernel
theorem dX0_init_84 : decode cX0_init 84 = .ok (.putfield 40, 3) := by decide +kernel
theorem dX0_init_87 : decode cX0_init 87 = .ok (.aload_n 0, 1) := by decide +kernel
theorem dX0_init_88 : decode cX0_init 88 = .ok (.bipush 16, 2) := by decide +kernel
theorem dX0_init_90 : decode cX0_init 90 = .ok (.newarray .int, 2) := by decide +kernel
theorem dX0_init_92 : decode cX0_init 92 = .ok (.putfield 43, 3) := by decide +kernel
theorem dX0_init_95 : decode cX0_init 95 = .ok (.aload_n 0, 1) := by decide +kernel
theorem dX0_init_96 : decode cX0_init 96 = .ok (.bipush 64, 2) := by decide +kernel
theorem dX0_init_98 : decode cX0_init 98 = .ok (.newarray .int, 2) := by decide +kernel
theorem dX0_init_100 : decode cX0_init 100 = .ok (.putfield 46, 3) := by decide +kernel
theorem dX0_init_103 : decode cX0_init 103 = .ok (.aload_n 0, 1) := by decide +kernel
theorem dX0_init_104 : decode cX0_init 104 = .ok (.iconst 4, 1) := by decide +kernel
theorem dX0_init_105 : decode cX0_init 105 = .ok (.newarray .int, 2) := by decide +kernel
theorem dX0_init_107 : decode cX0_init 107 = .ok (.putfield 49, 3) := by decide +kernel
theorem dX0_init_110 : decode cX0_init 110 = .ok (.aload_n 0, 1) := by decide +kernel
theorem dX0_init_111 : decode cX0_init 111 = .ok (.iconst 0, 1) := by decide +kernel
theorem dX0_init_112 : decode cX0_init 112 = .ok (.putfield 52, 3) := by decide +kernel
theorem dX0_init_115 : decode cX0_init 115 = .ok (.return_, 1) := by decide +kernel
theorem dX0_emit_0 : decode cX0_emit 0 = .ok (.iload_n 1, 1) := by decide +kernel
theorem dX0_emit_1 : decode cX0_emit 1 = .ok (.ifCond .lt 18, 3) := by decide +kernel
theorem dX0_emit_4 : decode cX0_emit 4 = .ok (.iload_n 1, 1) := by decide +kernel
theorem dX0_emit_5 : decode cX0_emit 5 = .ok (.iconst 3, 1) := by decide +kernel
theorem dX0_emit_6 : decode cX0_emit 6 = .ok (.if_icmp .ge 13, 3) := by decide +kernel
theorem dX0_emit_9 : decode cX0_emit 9 = .ok (.iload_n 2, 1) := by decide +kernel
theorem dX0_emit_10 : decode cX0_emit 10 = .ok (.ifCond .lt 9, 3) := by decide +kernel
theorem dX0_emit_13 : decode cX0_emit 13 = .ok (.iload_n 2, 1) := by decide +kernel
theorem dX0_emit_14 : decode cX0_emit 14 = .ok (.bipush 7, 2) := by decide +kernel
theorem dX0_emit_16 : decode cX0_emit 16 = .ok (.if_icmp .le 5, 3) := by decide +kernel
theorem dX0_emit_19 : decode cX0_emit 19 = .ok (.iconst (-1), 1) := by decide +kernel
theorem dX0_emit_20 : decode cX0_emit 20 = .ok (.ireturn, 1) := by decide +kernel
theorem dX0_emit_21 : decode cX0_emit 21 = .ok (.iconst 0, 1) := by decide +kernel
theorem dX0_emit_22 : decode cX0_emit 22 = .ok (.istore 5, 2) := by decide +kernel
theorem dX0_emit_24 : decode cX0_emit 24 = .ok (.iload 5, 2) := by decide +kernel
theorem dX0_emit_26 : decode cX0_emit 26 = .ok (.iconst 4, 1) := by decide +kernel
theorem dX0_emit_27 : decode cX0_emit 27 = .ok (.if_icmp .ge 22, 3) := by decide +kernel
theorem dX0_emit_30 : decode cX0_emit 30 = .ok (.aload_n 0, 1) := by decide +kernel
theorem dX0_emit_31 : decode cX0_emit 31 = .ok (.getfield 28, 3) := by decide +kernel
theorem dX0_emit_34 : decode cX0_emit 34 = .ok (.iload 5, 2) := by decide +kernel
theorem dX0_emit_36 : decode cX0_emit 36 = .ok (.iaload, 1) := by decide +kernel
theorem dX0_emit_37 : decode cX0_emit 37 = .ok (.ifCond .eq 6, 3) := by decide +kernel
theorem dX0_emit_40 : decode cX0_emit 40 = .ok (.bipush (-3), 2) := by decide +kernel
theorem dX0_emit_42 : decode cX0_emit 42 = .ok (.ireturn, 1) := by decide +kernel
theorem dX0_emit_43 : decode cX0_emit 43 = .ok (.iinc 5 1, 3) := by decide +kernel
theorem dX0_emit_46 : decode cX0_emit 46 = .ok (.goto (-22), 3) := by decide +kernel
theorem dX0_emit_49 : decode cX0_emit 49 = .ok (.aload_n 0, 1) := by decide +kernel
theorem dX0_emit_50 : decode cX0_emit 50 = .ok (.getfield 7, 3) := by decide +kernel
theorem dX0_emit_53 : decode cX0_emit 53 = .ok (.iload_n 1, 1) := by decide +kernel
theorem dX0_emit_54 : decode cX0_emit 54 = .ok (.iaload, 1) := by decide +kernel
theorem dX0_emit_55 : decode cX0_emit 55 = .ok (.bipush 8, 2) := by decide +kernel
theorem dX0_emit_57 : decode cX0_emit 57 = .ok (.if_icmp .lt 6, 3) := by decide +kernel
theorem dX0_emit_60 : decode cX0_emit 60 = .ok (.bipush (-2), 2) := by decide +kernel
theorem dX0_emit_62 : decode cX0_emit 62 = .ok (.ireturn, 1) := by decide +kernel
theorem dX0_emit_63 : decode cX0_emit 63 = .ok (.iload_n 1, 1) := by decide +kernel
theorem dX0_emit_64 : decode cX0_emit 64 = .ok (.bipush 8, 2) := by decide +kernel
theorem dX0_emit_66 : decode cX0_emit 66 = .ok (.imul, 1) := by decide +kernel
theorem dX0_emit_67 : decode cX0_emit 67 = .ok (.aload_n 0, 1) := by decide +kernel
theorem dX0_emit_68 : decode cX0_emit 68 = .ok (.getfield 7, 3) := by decide +kernel
theorem dX0_emit_71 : decode cX0_emit 71 = .ok (.iload_n 1, 1) := by decide +kernel
theorem dX0_emit_72 : decode cX0_emit 72 = .ok (.iaload, 1) := by decide +kernel
theorem dX0_emit_73 : decode cX0_emit 73 = .ok (.iadd, 1) := by decide +kernel
theorem dX0_emit_74 : decode cX0_emit 74 = .ok (.istore 5, 2) := by decide +kernel
theorem dX0_emit_76 : decode cX0_emit 76 = .ok (.aload_n 0, 1) := by decide +kernel
theorem dX0_emit_77 : decode cX0_emit 77 = .ok (.getfield 13, 3) := by decide +kernel
theorem dX0_emit_80 : decode cX0_emit 80 = .ok (.iload 5, 2) := by decide +kernel
theorem dX0_emit_82 : decode cX0_emit 82 = .ok (.iload_n 2, 1) := by decide +kernel
theorem dX0_emit_83 : decode cX0_emit 83 = .ok (.iastore, 1) := by decide +kernel
theorem dX0_emit_84 : decode cX0_emit 84 = .ok (.aload_n 0, 1) := by decide +kernel
theorem dX0_emit_85 : decode cX0_emit 85 = .ok (.getfield 16, 3) := by decide +kernel
theorem dX0_emit_88 : decode cX0_emit 88 = .ok (.iload 5, 2) := by decide +kernel
theorem dX0_emit_90 : decode cX0_emit 90 = .ok (.iload_n 3, 1) := by decide +kernel
theorem dX0_emit_91 : decode cX0_emit 91 = .ok (.iconst 3, 1) := by decide +kernel
theorem dX0_emit_92 : decode cX0_emit 92 = .ok (.iand, 1) := by decide +kernel
theorem dX0_emit_93 : decode cX0_emit 93 = .ok (.iastore, 1) := by decide +kernel
theorem dX0_emit_94 : decode cX0_emit 94 = .ok (.aload_n 0, 1) := by decide +kernel
theorem dX0_emit_95 : decode cX0_emit 95 = .ok (.getfield 19, 3) := by decide +kernel
theorem dX0_emit_98 : decode cX0_emit 98 = .ok (.iload 5, 2) := by decide +kernel
theorem dX0_emit_100 : decode cX0_emit 100 = .ok (.iload_n 3, 1) := by decide +kernel
theorem dX0_emit_101 : decode cX0_emit 101 = .ok (.iconst 2, 1) := by decide +kernel
theorem dX0_emit_102 : decode cX0_emit 102 = .ok (.ishr, 1) := by decide +kernel
theorem dX0_emit_103 : decode cX0_emit 103 = .ok (.iconst 3, 1) := by decide +kernel
theorem dX0_emit_104 : decode cX0_emit 104 = .ok (.iand, 1) := by decide +kernel
theorem dX0_emit_105 : decode cX0_emit 105 = .ok (.iastore, 1) := by decide +kernel
theorem dX0_emit_106 : decode cX0_emit 106 = .ok (.aload_n 0, 1) := by decide +kernel
theorem dX0_emit_107 : decode cX0_emit 107 = .ok (.getfield 22, 3) := by decide +kernel
theorem dX0_emit_110 : decode cX0_emit 110 = .ok (.iload 5, 2) := by decide +kernel
theorem dX0_emit_112 : decode cX0_emit 112 = .ok (.iload 4, 2) := by decide +kernel
theorem dX0_emit_114 : decode cX0_emit 114 = .ok (.iastore, 1) := by decide +kernel
theorem dX0_emit_115 : decode cX0_emit 115 = .ok (.aload_n 0, 1) := by decide +kernel
theorem dX0_emit_116 : decode cX0_emit 116 = .ok (.getfield 7, 3) := by decide +kernel
theorem dX0_emit_119 : decode cX0_emit 119 = .ok (.iload_n 1, 1) := by decide +kernel
theorem dX0_emit_120 : decode cX0_emit 120 = .ok (.dup2, 1) := by decide +kernel
theorem dX0_emit_121 : decode cX0_emit 121 = .ok (.iaload, 1) := by decide +kernel
theorem dX0_emit_122 : decode cX0_emit 122 = .ok (.iconst 1, 1) := by decide +kernel
theorem dX0_emit_123 : decode cX0_emit 123 = .ok (.iadd, 1) := by decide +kernel
theorem dX0_emit_124 : decode cX0_emit 124 = .ok (.iastore, 1) := by decide +kernel
theorem dX0_emit_125 : decode cX0_emit 125 = .ok (.aload_n 0, 1) := by decide +kernel
theorem dX0_emit_126 : decode cX0_emit 126 = .ok (.iconst 0, 1) := by decide +kernel
theorem dX0_emit_127 : decode cX0_emit 127 = .ok (.putfield 52, 3) := by decide +kernel
theorem dX0_emit_130 : decode cX0_emit 130 = .ok (.aload_n 0, 1) := by decide +kernel
theorem dX0_emit_131 : decode cX0_emit 131 = .ok (.getfield 7, 3) := by decide +kernel
theorem dX0_emit_134 : decode cX0_emit 134 = .ok (.iload_n 1, 1) := by decide +kernel
theorem dX0_emit_135 : decode cX0_emit 135 = .ok (.iaload, 1) := by decide +kernel
theorem dX0_emit_136 : decode cX0_emit 136 = .ok (.iconst 1, 1) := by decide +kernel
theorem dX0_emit_137 : decode cX0_emit 137 = .ok (.isub, 1) := by decide +kernel
theorem dX0_emit_138 : decode cX0_emit 138 = .ok (.ireturn, 1) := by decide +kernel
theorem dX0_start_0 : decode cX0_start 0 = .ok (.iload_n 1, 1) := by decide +kernel
theorem dX0_start_1 : decode cX0_start 1 = .ok (.invokestatic 105, 3) := by decide +kernel
theorem dX0_start_4 : decode cX0_start 4 = .ok (.ifCond .ne 12, 3) := by decide +kernel
theorem dX0_start_7 : decode cX0_start 7 = .ok (.iload_n 2, 1) := by decide +kernel
theorem dX0_start_8 : decode cX0_start 8 = .ok (.ifCond .lt 8, 3) := by decide +kernel
theorem dX0_start_11 : decode cX0_start 11 = .ok (.iload_n 2, 1) := by decide +kernel
theorem dX0_start_12 : decode cX0_start 12 = .ok (.iconst 3, 1) := by decide +kernel
theorem dX0_start_13 : decode cX0_start 13 = .ok (.if_icmp .lt 5, 3) := by decide +kernel
theorem dX0_start_16 : decode cX0_start 16 = .ok (.iconst (-1), 1) := by decide +kernel
theorem dX0_start_17 : decode cX0_start 17 = .ok (.ireturn, 1) := by decide +kernel
theorem dX0_start_18 : decode cX0_start 18 = .ok (.aload_n 0, 1) := by decide +kernel
theorem dX0_start_19 : decode cX0_start 19 = .ok (.getfield 28, 3) := by decide +kernel
theorem dX0_start_22 : decode cX0_start 22 = .ok (.iload_n 1, 1) := by decide +kernel
theorem dX0_start_23 : decode cX0_start 23 = .ok (.iconst 1, 1) := by decide +kernel
theorem dX0_start_24 : decode cX0_start 24 = .ok (.iastore, 1) := by decide +kernel
theorem dX0_start_25 : decode cX0_start 25 = .ok (.aload_n 0, 1) := by decide +kernel
theorem dX0_start_26 : decode cX0_start 26 = .ok (.getfield 31, 3) := by decide +kernel
theorem dX0_start_29 : decode cX0_start 29 = .ok (.iload_n 1, 1) := by decide +kernel
theorem dX0_start_30 : decode cX0_start 30 = .ok (.iconst 0, 1) := by decide +kernel
theorem dX0_start_31 : decode cX0_start 31 = .ok (.iastore, 1) := by decide +kernel
theorem dX0_start_32 : decode cX0_start 32 = .ok (.aload_n 0, 1) := by decide +kernel
theorem dX0_start_33 : decode cX0_start 33 = .ok (.getfield 34, 3) := by decide +kernel
theorem dX0_start_36 : decode cX0_start 36 = .ok (.iload_n 1, 1) := by decide +kernel
theorem dX0_start_37 : decode cX0_start 37 = .ok (.iconst 0, 1) := by decide +kernel
theorem dX0_start_38 : decode cX0_start 38 = .ok (.iastore, 1) := by decide +kernel
theorem dX0_start_39 : decode cX0_start 39 = .ok (.aload_n 0, 1) := by decide +kernel
theorem dX0_start_40 : decode cX0_start 40 = .ok (.getfield 37, 3) := by decide +kernel
theorem dX0_start_43 : decode cX0_start 43 = .ok (.iload_n 1, 1) := by decide +kernel
theorem dX0_start_44 : decode cX0_start 44 = .ok (.iconst 1, 1) := by decide +kernel
theorem dX0_start_45 : decode cX0_start 45 = .ok (.iastore, 1) := by decide +kernel
theorem dX0_start_46 : decode cX0_start 46 = .ok (.aload_n 0, 1) := by decide +kernel
theorem dX0_start_47 : decode cX0_start 47 = .ok (.getfield 40, 3) := by decide +kernel
theorem dX0_start_50 : decode cX0_start 50 = .ok (.iload_n 1, 1) := by decide +kernel
theorem dX0_start_51 : decode cX0_start 51 = .ok (.iconst 4, 1) := by decide +kernel
theorem dX0_start_52 : decode cX0_start 52 = .ok (.imul, 1) := by decide +kernel
theorem dX0_start_53 : decode cX0_start 53 = .ok (.iload_n 2, 1) := by decide +kernel
theorem dX0_start_54 : decode cX0_start 54 = .ok (.iastore, 1) := by decide +kernel
theorem dX0_start_55 : decode cX0_start 55 = .ok (.aload_n 0, 1) := by decide +kernel
theorem dX0_start_56 : decode cX0_start 56 = .ok (.getfield 43, 3) := by decide +kernel
theorem dX0_start_59 : decode cX0_start 59 = .ok (.iload_n 1, 1) := by decide +kernel
theorem dX0_start_60 : decode cX0_start 60 = .ok (.iconst 4, 1) := by decide +kernel
theorem dX0_start_61 : decode cX0_start 61 = .ok (.imul, 1) := by decide +kernel
theorem dX0_start_62 : decode cX0_start 62 = .ok (.iconst (-1), 1) := by decide +kernel
theorem dX0_start_63 : decode cX0_start 63 = .ok (.iastore, 1) := by decide +kernel
theorem dX0_start_64 : decode cX0_start 64 = .ok (.aload_n 0, 1) := by decide +kernel
theorem dX0_start_65 : decode cX0_start 65 = .ok (.getfield 46, 3) := by decide +kernel
theorem dX0_start_68 : decode cX0_start 68 = .ok (.iload_n 1, 1) := by decide +kernel
theorem dX0_start_69 : decode cX0_start 69 = .ok (.iconst 4, 1) := by decide +kernel
theorem dX0_start_70 : decode cX0_start 70 = .ok (.imul, 1) := by decide +kernel
theorem dX0_start_71 : decode cX0_start 71 = .ok (.iconst 4, 1) := by decide +kernel
theorem dX0_start_72 : decode cX0_start 72 = .ok (.imul, 1) := by decide +kernel
theorem dX0_start_73 : decode cX0_start 73 = .ok (.iload_n 3, 1) := by decide +kernel
theorem dX0_start_74 : decode cX0_start 74 = .ok (.iastore, 1) := by decide +kernel
theorem dX0_start_75 : decode cX0_start 75 = .ok (.iconst 0, 1) := by decide +kernel
theorem dX0_start_76 : decode cX0_start 76 = .ok (.ireturn, 1) := by decide +kernel
theorem dX0_bad_0 : decode cX0_bad 0 = .ok (.iload_n 0, 1) := by decide +kernel
theorem dX0_bad_1 : decode cX0_bad 1 = .ok (.ifCond .lt 8, 3) := by decide +kernel
theorem dX0_bad_4 : decode cX0_bad 4 = .ok (.iload_n 0, 1) := by decide +kernel
theorem dX0_bad_5 : decode cX0_bad 5 = .ok (.iconst 3, 1) := by decide +kernel
theorem dX0_bad_6 : decode cX0_bad 6 = .ok (.if_icmp .le 7, 3) := by decide +kernel
theorem dX0_bad_9 : decode cX0_bad 9 = .ok (.iconst 1, 1) := by decide +kernel
theorem dX0_bad_10 : decode cX0_bad 10 = .ok (.goto 4, 3) := by decide +kernel
theorem dX0_bad_13 : decode cX0_bad 13 = .ok (.iconst 0, 1) := by decide +kernel
theorem dX0_bad_14 : decode cX0_bad 14 = .ok (.ireturn, 1) := by decide +kernel
theorem dX0_resume_0 : decode cX0_resume 0 = .ok (.iload_n 1, 1) := by decide +kernel
theorem dX0_resume_1 : decode cX0_resume 1 = .ok (.invokestatic 105, 3) := by decide +kernel
theorem dX0_resume_4 : decode cX0_resume 4 = .ok (.ifCond .eq 5, 3) := by decide +kernel
theorem dX0_resume_7 : decode cX0_resume 7 = .ok (.iconst (-1), 1) := by decide +kernel
theorem dX0_resume_8 : decode cX0_resume 8 = .ok (.ireturn, 1) := by decide +kernel
theorem dX0_resume_9 : decode cX0_resume 9 = .ok (.aload_n 0, 1) := by decide +kernel
theorem dX0_resume_10 : decode cX0_resume 10 = .ok (.getfield 28, 3) := by decide +kernel
theorem dX0_resume_13 : decode cX0_resume 13 = .ok (.iload_n 1, 1) := by decide +kernel
theorem dX0_resume_14 : decode cX0_resume 14 = .ok (.iaload, 1) := by decide +kernel
theorem dX0_resume_15 : decode cX0_resume 15 = .ok (.iconst 1, 1) := by decide +kernel
theorem dX0_resume_16 : decode cX0_resume 16 = .ok (.if_icmp .eq 16, 3) := by decide +kernel
theorem dX0_resume_19 : decode cX0_resume 19 = .ok (.aload_n 0, 1) := by decide +kernel
theorem dX0_resume_20 : decode cX0_resume 20 = .ok (.getfield 28, 3) := by decide +kernel
theorem dX0_resume_23 : decode cX0_resume 23 = .ok (.iload_n 1, 1) := by decide +kernel
theorem dX0_resume_24 : decode cX0_resume 24 = .ok (.iaload, 1) := by decide +kernel
theorem dX0_resume_25 : decode cX0_resume 25 = .ok (.iconst 2, 1) := by decide +kernel
theorem dX0_resume_26 : decode cX0_resume 26 = .ok (.if_icmp .eq 6, 3) := by decide +kernel
theorem dX0_resume_29 : decode cX0_resume 29 = .ok (.bipush (-4), 2) := by decide +kernel
theorem dX0_resume_31 : decode cX0_resume 31 = .ok (.ireturn, 1) := by decide +kernel
theorem dX0_resume_32 : decode cX0_resume 32 = .ok (.aload_n 0, 1) := by decide +kernel
theorem dX0_resume_33 : decode cX0_resume 33 = .ok (.iload_n 1, 1) := by decide +kernel
theorem dX0_resume_34 : decode cX0_resume 34 = .ok (.iload_n 2, 1) := by decide +kernel
theorem dX0_resume_35 : decode cX0_resume 35 = .ok (.invokevirtual 115, 3) := by decide +kernel
theorem dX0_resume_38 : decode cX0_resume 38 = .ok (.ireturn, 1) := by decide +kernel
theorem dX0_goOn_0 : decode cX0_goOn 0 = .ok (.aload_n 0, 1) := by decide +kernel
theorem dX0_goOn_1 : decode cX0_goOn 1 = .ok (.invokevirtual 109, 3) := by decide +kernel
theorem dX0_goOn_4 : decode cX0_goOn 4 = .ok (.aload_n 0, 1) := by decide +kernel
theorem dX0_goOn_5 : decode cX0_goOn 5 = .ok (.iload_n 1, 1) := by decide +kernel
theorem dX0_goOn_6 : decode cX0_goOn 6 = .ok (.aload_n 0, 1) := by decide +kernel
theorem dX0_goOn_7 : decode cX0_goOn 7 = .ok (.getfield 37, 3) := by decide +kernel
theorem dX0_goOn_10 : decode cX0_goOn 10 = .ok (.iload_n 1, 1) := by decide +kernel
theorem dX0_goOn_11 : decode cX0_goOn 11 = .ok (.iaload, 1) := by decide +kernel
theorem dX0_goOn_12 : decode cX0_goOn 12 = .ok (.iconst 1, 1) := by decide +kernel
theorem dX0_goOn_13 : decode cX0_goOn 13 = .ok (.isub, 1) := by decide +kernel
theorem dX0_goOn_14 : decode cX0_goOn 14 = .ok (.invokevirtual 81, 3) := by decide +kernel
theorem dX0_goOn_17 : decode cX0_goOn 17 = .ok (.aload_n 0, 1) := by decide +kernel
theorem dX0_goOn_18 : decode cX0_goOn 18 = .ok (.getfield 28, 3) := by decide +kernel
theorem dX0_goOn_21 : decode cX0_goOn 21 = .ok (.iload_n 1, 1) := by decide +kernel
theorem dX0_goOn_22 : decode cX0_goOn 22 = .ok (.iaload, 1) := by decide +kernel
theorem dX0_goOn_23 : decode cX0_goOn 23 = .ok (.iconst 2, 1) := by decide +kernel
theorem dX0_goOn_24 : decode cX0_goOn 24 = .ok (.if_icmp .ne 26, 3) := by decide +kernel
theorem dX0_goOn_27 : decode cX0_goOn 27 = .ok (.aload_n 0, 1) := by decide +kernel
theorem dX0_goOn_28 : decode cX0_goOn 28 = .ok (.getfield 49, 3) := by decide +kernel
theorem dX0_goOn_31 : decode cX0_goOn 31 = .ok (.aload_n 0, 1) := by decide +kernel
theorem dX0_goOn_32 : decode cX0_goOn 32 = .ok (.getfield 19, 3) := by decide +kernel
theorem dX0_goOn_35 : decode cX0_goOn 35 = .ok (.aload_n 0, 1) := by decide +kernel
theorem dX0_goOn_36 : decode cX0_goOn 36 = .ok (.getfield 67, 3) := by decide +kernel
theorem dX0_goOn_39 : decode cX0_goOn 39 = .ok (.bipush 8, 2) := by decide +kernel
theorem dX0_goOn_41 : decode cX0_goOn 41 = .ok (.imul, 1) := by decide +kernel
theorem dX0_goOn_42 : decode cX0_goOn 42 = .ok (.aload_n 0, 1) := by decide +kernel
theorem dX0_goOn_43 : decode cX0_goOn 43 = .ok (.getfield 71, 3) := by decide +kernel
theorem dX0_goOn_46 : decode cX0_goOn 46 = .ok (.iadd, 1) := by decide +kernel
theorem dX0_goOn_47 : decode cX0_goOn 47 = .ok (.iaload, 1) := by decide +kernel
theorem dX0_goOn_48 : decode cX0_goOn 48 = .ok (.iload_n 2, 1) := by decide +kernel
theorem dX0_goOn_49 : decode cX0_goOn 49 = .ok (.iastore, 1) := by decide +kernel
theorem dX0_goOn_50 : decode cX0_goOn 50 = .ok (.aload_n 0, 1) := by decide +kernel
theorem dX0_goOn_51 : decode cX0_goOn 51 = .ok (.dup, 1) := by decide +kernel
theorem dX0_goOn_52 : decode cX0_goOn 52 = .ok (.getfield 71, 3) := by decide +kernel
theorem dX0_goOn_55 : decode cX0_goOn 55 = .ok (.iconst 1, 1) := by decide +kernel
theorem dX0_goOn_56 : decode cX0_goOn 56 = .ok (.iadd, 1) := by decide +kernel
theorem dX0_goOn_57 : decode cX0_goOn 57 = .ok (.putfield 71, 3) := by decide +kernel
theorem dX0_goOn_60 : decode cX0_goOn 60 = .ok (.aload_n 0, 1) := by decide +kernel
theorem dX0_goOn_61 : decode cX0_goOn 61 = .ok (.iload_n 1, 1) := by decide +kernel
theorem dX0_goOn_62 : decode cX0_goOn 62 = .ok (.invokevirtual 112, 3) := by decide +kernel
theorem dX0_goOn_65 : decode cX0_goOn 65 = .ok (.aload_n 0, 1) := by decide +kernel
theorem dX0_goOn_66 : decode cX0_goOn 66 = .ok (.getfield 28, 3) := by decide +kernel
theorem dX0_goOn_69 : decode cX0_goOn 69 = .ok (.iload_n 1, 1) := by decide +kernel
theorem dX0_goOn_70 : decode cX0_goOn 70 = .ok (.iaload, 1) := by decide +kernel
theorem dX0_goOn_71 : decode cX0_goOn 71 = .ok (.ireturn, 1) := by decide +kernel
theorem dX0_analyse_0 : decode cX0_analyse 0 = .ok (.aload_n 0, 1) := by decide +kernel
theorem dX0_analyse_1 : decode cX0_analyse 1 = .ok (.getfield 52, 3) := by decide +kernel
theorem dX0_analyse_4 : decode cX0_analyse 4 = .ok (.ifCond .eq 4, 3) := by decide +kernel
theorem dX0_analyse_7 : decode cX0_analyse 7 = .ok (.return_, 1) := by decide +kernel
theorem dX0_analyse_8 : decode cX0_analyse 8 = .ok (.aload_n 0, 1) := by decide +kernel
theorem dX0_analyse_9 : decode cX0_analyse 9 = .ok (.iconst 1, 1) := by decide +kernel
theorem dX0_analyse_10 : decode cX0_analyse 10 = .ok (.putfield 52, 3) := by decide +kernel
theorem dX0_analyse_13 : decode cX0_analyse 13 = .ok (.iconst 0, 1) := by decide +kernel
theorem dX0_analyse_14 : decode cX0_analyse 14 = .ok (.istore_n 1, 1) := by decide +kernel
theorem dX0_analyse_15 : decode cX0_analyse 15 = .ok (.iload_n 1, 1) := by decide +kernel
theorem dX0_analyse_16 : decode cX0_analyse 16 = .ok (.bipush 27, 2) := by decide +kernel
theorem dX0_analyse_18 : decode cX0_analyse 18 = .ok (.if_icmp .ge 16, 3) := by decide +kernel
theorem dX0_analyse_21 : decode cX0_analyse 21 = .ok (.aload_n 0, 1) := by decide +kernel
theorem dX0_analyse_22 : decode cX0_analyse 22 = .ok (.getfield 25, 3) := by decide +kernel
theorem dX0_analyse_25 : decode cX0_analyse 25 = .ok (.iload_n 1, 1) := by decide +kernel
theorem dX0_analyse_26 : decode cX0_analyse 26 = .ok (.iconst 0, 1) := by decide +kernel
theorem dX0_analyse_27 : decode cX0_analyse 27 = .ok (.iastore, 1) := by decide +kernel
theorem dX0_analyse_28 : decode cX0_analyse 28 = .ok (.iinc 1 1, 3) := by decide +kernel
theorem dX0_analyse_31 : decode cX0_analyse 31 = .ok (.goto (-16), 3) := by decide +kernel
theorem dX0_analyse_34 : decode cX0_analyse 34 = .ok (.iconst 1, 1) := by decide +kernel
theorem dX0_analyse_35 : decode cX0_analyse 35 = .ok (.istore_n 1, 1) := by decide +kernel
theorem dX0_analyse_36 : decode cX0_analyse 36 = .ok (.iconst 0, 1) := by decide +kernel
theorem dX0_analyse_37 : decode cX0_analyse 37 = .ok (.istore_n 2, 1) := by decide +kernel
theorem dX0_analyse_38 : decode cX0_analyse 38 = .ok (.iload_n 2, 1) := by decide +kernel
theorem dX0_analyse_39 : decode cX0_analyse 39 = .ok (.bipush 96, 2) := by decide +kernel
theorem dX0_analyse_41 : decode cX0_analyse 41 = .ok (.if_icmp .gt 57, 3) := by decide +kernel
theorem dX0_analyse_44 : decode cX0_analyse 44 = .ok (.iload_n 1, 1) := by decide +kernel
theorem dX0_analyse_45 : decode cX0_analyse 45 = .ok (.ifCond .eq 53, 3) := by decide +kernel
theorem dX0_analyse_48 : decode cX0_analyse 48 = .ok (.iconst 0, 1) := by decide +kernel
theorem dX0_analyse_49 : decode cX0_analyse 49 = .ok (.istore_n 1, 1) := by decide +kernel
theorem dX0_analyse_50 : decode cX0_analyse 50 = .ok (.bipush 23, 2) := by decide +kernel
theorem dX0_analyse_52 : decode cX0_analyse 52 = .ok (.istore_n 3, 1) := by decide +kernel
theorem dX0_analyse_53 : decode cX0_analyse 53 = .ok (.iload_n 3, 1) := by decide +kernel
theorem dX0_analyse_54 : decode cX0_analyse 54 = .ok (.ifCond .lt 38, 3) := by decide +kernel
theorem dX0_analyse_57 : decode cX0_analyse 57 = .ok (.aload_n 0, 1) := by decide +kernel
theorem dX0_analyse_58 : decode cX0_analyse 58 = .ok (.iload_n 3, 1) := by decide +kernel
theorem dX0_analyse_59 : decode cX0_analyse 59 = .ok (.bipush 8, 2) := by decide +kernel
theorem dX0_analyse_61 : decode cX0_analyse 61 = .ok (.idiv, 1) := by decide +kernel
theorem dX0_analyse_62 : decode cX0_analyse 62 = .ok (.iload_n 3, 1) := by decide +kernel
theorem dX0_analyse_63 : decode cX0_analyse 63 = .ok (.bipush 8, 2) := by decide +kernel
theorem dX0_analyse_65 : decode cX0_analyse 65 = .ok (.irem, 1) := by decide +kernel
theorem dX0_analyse_66 : decode cX0_analyse 66 = .ok (.invokevirtual 60, 3) := by decide +kernel
theorem dX0_analyse_69 : decode cX0_analyse 69 = .ok (.istore 4, 2) := by decide +kernel
theorem dX0_analyse_71 : decode cX0_analyse 71 = .ok (.iload_n 1, 1) := by decide +kernel
theorem dX0_analyse_72 : decode cX0_analyse 72 = .ok (.ifCond .ne 8, 3) := by decide +kernel
theorem dX0_analyse_75 : decode cX0_analyse 75 = .ok (.iload 4, 2) := by decide +kernel
theorem dX0_analyse_77 : decode cX0_analyse 77 = .ok (.ifCond .eq 7, 3) := by decide +kernel
theorem dX0_analyse_80 : decode cX0_analyse 80 = .ok (.iconst 1, 1) := by decide +kernel
theorem dX0_analyse_81 : decode cX0_analyse 81 = .ok (.goto 4, 3) := by decide +kernel
theorem dX0_analyse_84 : decode cX0_analyse 84 = .ok (.iconst 0, 1) := by decide +kernel
theorem dX0_analyse_85 : decode cX0_analyse 85 = .ok (.istore_n 1, 1) := by decide +kernel
theorem dX0_analyse_86 : decode cX0_analyse 86 = .ok (.iinc 3 (-1), 3) := by decide +kernel
theorem dX0_analyse_89 : decode cX0_analyse 89 = .ok (.goto (-36), 3) := by decide +kernel
theorem dX0_analyse_92 : decode cX0_analyse 92 = .ok (.iinc 2 1, 3) := by decide +kernel
theorem dX0_analyse_95 : decode cX0_analyse 95 = .ok (.goto (-57), 3) := by decide +kernel
theorem dX0_analyse_98 : decode cX0_analyse 98 = .ok (.return_, 1) := by decide +kernel
theorem dX0_analyseAt_0 : decode cX0_analyseAt 0 = .ok (.iload_n 2, 1) := by decide +kernel
theorem dX0_analyseAt_1 : decode cX0_analyseAt 1 = .ok (.aload_n 0, 1) := by decide +kernel
theorem dX0_analyseAt_2 : decode cX0_analyseAt 2 = .ok (.getfield 7, 3) := by decide +kernel
theorem dX0_analyseAt_5 : decode cX0_analyseAt 5 = .ok (.iload_n 1, 1) := by decide +kernel
theorem dX0_analyseAt_6 : decode cX0_analyseAt 6 = .ok (.iaload, 1) := by decide +kernel
theorem dX0_analyseAt_7 : decode cX0_analyseAt 7 = .ok (.if_icmp .lt 5, 3) := by decide +kernel
theorem dX0_analyseAt_10 : decode cX0_analyseAt 10 = .ok (.iconst 0, 1) := by decide +kernel
theorem dX0_analyseAt_11 : decode cX0_analyseAt 11 = .ok (.ireturn, 1) := by decide +kernel
theorem dX0_analyseAt_12 : decode cX0_analyseAt 12 = .ok (.aload_n 0, 1) := by decide +kernel
theorem dX0_analyseAt_13 : decode cX0_analyseAt 13 = .ok (.iload_n 1, 1) := by decide +kernel
theorem dX0_analyseAt_14 : decode cX0_analyseAt 14 = .ok (.iload_n 2, 1) := by decide +kernel
theorem dX0_analyseAt_15 : decode cX0_analyseAt 15 = .ok (.invokevirtual 64, 3) := by decide +kernel
theorem dX0_analyseAt_18 : decode cX0_analyseAt 18 = .ok (.istore_n 3, 1) := by decide +kernel
theorem dX0_analyseAt_19 : decode cX0_analyseAt 19 = .ok (.iload_n 3, 1) := by decide +kernel
theorem dX0_analyseAt_20 : decode cX0_analyseAt 20 = .ok (.aload_n 0, 1) := by decide +kernel
theorem dX0_analyseAt_21 : decode cX0_analyseAt 21 = .ok (.getfield 25, 3) := by decide +kernel
theorem dX0_analyseAt_24 : decode cX0_analyseAt 24 = .ok (.iload_n 1, 1) := by decide +kernel
theorem dX0_analyseAt_25 : decode cX0_analyseAt 25 = .ok (.bipush 9, 2) := by decide +kernel
theorem dX0_analyseAt_27 : decode cX0_analyseAt 27 = .ok (.imul, 1) := by decide +kernel
theorem dX0_analyseAt_28 : decode cX0_analyseAt 28 = .ok (.iload_n 2, 1) := by decide +kernel
theorem dX0_analyseAt_29 : decode cX0_analyseAt 29 = .ok (.iadd, 1) := by decide +kernel
theorem dX0_analyseAt_30 : decode cX0_analyseAt 30 = .ok (.iaload, 1) := by decide +kernel
theorem dX0_analyseAt_31 : decode cX0_analyseAt 31 = .ok (.if_icmp .ne 5, 3) := by decide +kernel
theorem dX0_analyseAt_34 : decode cX0_analyseAt 34 = .ok (.iconst 0, 1) := by decide +kernel
theorem dX0_analyseAt_35 : decode cX0_analyseAt 35 = .ok (.ireturn, 1) := by decide +kernel
theorem dX0_analyseAt_36 : decode cX0_analyseAt 36 = .ok (.aload_n 0, 1) := by decide +kernel
theorem dX0_analyseAt_37 : decode cX0_analyseAt 37 = .ok (.getfield 25, 3) := by decide +kernel
theorem dX0_analyseAt_40 : decode cX0_analyseAt 40 = .ok (.iload_n 1, 1) := by decide +kernel
theorem dX0_analyseAt_41 : decode cX0_analyseAt 41 = .ok (.bipush 9, 2) := by decide +kernel
theorem dX0_analyseAt_43 : decode cX0_analyseAt 43 = .ok (.imul, 1) := by decide +kernel
theorem dX0_analyseAt_44 : decode cX0_analyseAt 44 = .ok (.iload_n 2, 1) := by decide +kernel
theorem dX0_analyseAt_45 : decode cX0_analyseAt 45 = .ok (.iadd, 1) := by decide +kernel
theorem dX0_analyseAt_46 : decode cX0_analyseAt 46 = .ok (.iload_n 3, 1) := by decide +kernel
theorem dX0_analyseAt_47 : decode cX0_analyseAt 47 = .ok (.iastore, 1) := by decide +kernel
theorem dX0_analyseAt_48 : decode cX0_analyseAt 48 = .ok (.iconst 1, 1) := by decide +kernel
theorem dX0_analyseAt_49 : decode cX0_analyseAt 49 = .ok (.ireturn, 1) := by decide +kernel
theorem dX0_readsBefore_0 : decode cX0_readsBefore 0 = .ok (.iload_n 1, 1) := by decide +kernel
theorem dX0_readsBefore_1 : decode cX0_readsBefore 1 = .ok (.bipush 8, 2) := by decide +kernel
theorem dX0_readsBefore_3 : decode cX0_readsBefore 3 = .ok (.imul, 1) := by decide +kernel
theorem dX0_readsBefore_4 : decode cX0_readsBefore 4 = .ok (.iload_n 2, 1) := by decide +kernel
theorem dX0_readsBefore_5 : decode cX0_readsBefore 5 = .ok (.iadd, 1) := by decide +kernel
theorem dX0_readsBefore_6 : decode cX0_readsBefore 6 = .ok (.istore_n 3, 1) := by decide +kernel
theorem dX0_readsBefore_7 : decode cX0_readsBefore 7 = .ok (.iconst 1, 1) := by decide +kernel
theorem dX0_readsBefore_8 : decode cX0_readsBefore 8 = .ok (.aload_n 0, 1) := by decide +kernel
theorem dX0_readsBefore_9 : decode cX0_readsBefore 9 = .ok (.getfield 16, 3) := by decide +kernel
theorem dX0_readsBefore_12 : decode cX0_readsBefore 12 = .ok (.iload_n 3, 1) := by decide +kernel
theorem dX0_readsBefore_13 : decode cX0_readsBefore 13 = .ok (.iaload, 1) := by decide +kernel
theorem dX0_readsBefore_14 : decode cX0_readsBefore 14 = .ok (.ishl, 1) := by decide +kernel
theorem dX0_readsBefore_15 : decode cX0_readsBefore 15 = .ok (.istore 4, 2) := by decide +kernel
theorem dX0_readsBefore_17 : decode cX0_readsBefore 17 = .ok (.iconst 1, 1) := by decide +kernel
theorem dX0_readsBefore_18 : decode cX0_readsBefore 18 = .ok (.aload_n 0, 1) := by decide +kernel
theorem dX0_readsBefore_19 : decode cX0_readsBefore 19 = .ok (.getfield 19, 3) := by decide +kernel
theorem dX0_readsBefore_22 : decode cX0_readsBefore 22 = .ok (.iload_n 3, 1) := by decide +kernel
theorem dX0_readsBefore_23 : decode cX0_readsBefore 23 = .ok (.iaload, 1) := by decide +kernel
theorem dX0_readsBefore_24 : decode cX0_readsBefore 24 = .ok (.ishl, 1) := by decide +kernel
theorem dX0_readsBefore_25 : decode cX0_readsBefore 25 = .ok (.istore 5, 2) := by decide +kernel
theorem dX0_readsBefore_27 : decode cX0_readsBefore 27 = .ok (.aload_n 0, 1) := by decide +kernel
theorem dX0_readsBefore_28 : decode cX0_readsBefore 28 = .ok (.iload_n 1, 1) := by decide +kernel
theorem dX0_readsBefore_29 : decode cX0_readsBefore 29 = .ok (.iload_n 2, 1) := by decide +kernel
theorem dX0_readsBefore_30 : decode cX0_readsBefore 30 = .ok (.iconst 1, 1) := by decide +kernel
theorem dX0_readsBefore_31 : decode cX0_readsBefore 31 = .ok (.iadd, 1) := by decide +kernel
theorem dX0_readsBefore_32 : decode cX0_readsBefore 32 = .ok (.invokevirtual 56, 3) := by decide +kernel
theorem dX0_readsBefore_35 : decode cX0_readsBefore 35 = .ok (.istore 6, 2) := by decide +kernel
theorem dX0_readsBefore_37 : decode cX0_readsBefore 37 = .ok (.aload_n 0, 1) := by decide +kernel
theorem dX0_readsBefore_38 : decode cX0_readsBefore 38 = .ok (.getfield 13, 3) := by decide +kernel
theorem dX0_readsBefore_41 : decode cX0_readsBefore 41 = .ok (.iload_n 3, 1) := by decide +kernel
theorem dX0_readsBefore_42 : decode cX0_readsBefore 42 = .ok (.iaload, 1) := by decide +kernel
theorem dX0_readsBefore_43 : decode cX0_readsBefore 43 = .ok (.tableswitch 105 0 6 #[41, 49, 49, 58, 70, 88, 99], 41) := by decide +kernel
theorem dX0_readsBefore_84 : decode cX0_readsBefore 84 = .ok (.iload 6, 2) := by decide +kernel
theorem dX0_readsBefore_86 : decode cX0_readsBefore 86 = .ok (.iload 4, 2) := by decide +kernel
theorem dX0_readsBefore_88 : decode cX0_readsBefore 88 = .ok (.iconst (-1), 1) := by decide +kernel
theorem dX0_readsBefore_89 : decode cX0_readsBefore 89 = .ok (.ixor, 1) := by decide +kernel
theorem dX0_readsBefore_90 : decode cX0_readsBefore 90 = .ok (.iand, 1) := by decide +kernel
theorem dX0_readsBefore_91 : decode cX0_readsBefore 91 = .ok (.ireturn, 1) := by decide +kernel
theorem dX0_readsBefore_92 : decode cX0_readsBefore 92 = .ok (.iload 6, 2) := by decide +kernel
theorem dX0_readsBefore_94 : decode cX0_readsBefore 94 = .ok (.iload 4, 2) := by decide +kernel
theorem dX0_readsBefore_96 : decode cX0_readsBefore 96 = .ok (.ior, 1) := by decide +kernel
theorem dX0_readsBefore_97 : decode cX0_readsBefore 97 = .ok (.iload 5, 2) := by decide +kernel
theorem dX0_readsBefore_99 : decode cX0_readsBefore 99 = .ok (.ior, 1) := by decide +kernel
theorem dX0_readsBefore_100 : decode cX0_readsBefore 100 = .ok (.ireturn, 1) := by decide +kernel
theorem dX0_readsBefore_101 : decode cX0_readsBefore 101 = .ok (.aload_n 0, 1) := by decide +kernel
theorem dX0_readsBefore_102 : decode cX0_readsBefore 102 = .ok (.iload_n 1, 1) := by decide +kernel
end
section
set_option maxRecDepth 100000
theorem dX0_readsBefore_103 : decode cX0_readsBefore 103 = .ok (.aload_n 0, 1) := by decide +kernel
theorem dX0_readsBefore_104 : decode cX0_readsBefore 104 = .ok (.getfield 22, 3) := by decide +kernel
theorem dX0_readsBefore_107 : decode cX0_readsBefore 107 = .ok (.iload_n 3, 1) := by decide +kernel
theorem dX0_readsBefore_108 : decode cX0_readsBefore 108 = .ok (.iaload, 1) := by decide +kernel
theorem dX0_readsBefore_109 : decode cX0_readsBefore 109 = .ok (.invokevirtual 56, 3) := by decide +kernel
theorem dX0_readsBefore_112 : decode cX0_readsBefore 112 = .ok (.ireturn, 1) := by decide +kernel
theorem dX0_readsBefore_113 : decode cX0_readsBefore 113 = .ok (.iload 6, 2) := by decide +kernel
theorem dX0_readsBefore_115 : decode cX0_readsBefore 115 = .ok (.iload 4, 2) := by decide +kernel
theorem dX0_readsBefore_117 : decode cX0_readsBefore 117 = .ok (.ior, 1) := by decide +kernel
theorem dX0_readsBefore_118 : decode cX0_readsBefore 118 = .ok (.aload_n 0, 1) := by decide +kernel
theorem dX0_readsBefore_119 : decode cX0_readsBefore 119 = .ok (.iload_n 1, 1) := by decide +kernel
theorem dX0_readsBefore_120 : decode cX0_readsBefore 120 = .ok (.aload_n 0, 1) := by decide +kernel
theorem dX0_readsBefore_121 : decode cX0_readsBefore 121 = .ok (.getfield 22, 3) := by decide +kernel
theorem dX0_readsBefore_124 : decode cX0_readsBefore 124 = .ok (.iload_n 3, 1) := by decide +kernel
theorem dX0_readsBefore_125 : decode cX0_readsBefore 125 = .ok (.iaload, 1) := by decide +kernel
theorem dX0_readsBefore_126 : decode cX0_readsBefore 126 = .ok (.invokevirtual 56, 3) := by decide +kernel
theorem dX0_readsBefore_129 : decode cX0_readsBefore 129 = .ok (.ior, 1) := by decide +kernel
theorem dX0_readsBefore_130 : decode cX0_readsBefore 130 = .ok (.ireturn, 1) := by decide +kernel
theorem dX0_readsBefore_131 : decode cX0_readsBefore 131 = .ok (.iload 6, 2) := by decide +kernel
theorem dX0_readsBefore_133 : decode cX0_readsBefore 133 = .ok (.iload 5, 2) := by decide +kernel
theorem dX0_readsBefore_135 : decode cX0_readsBefore 135 = .ok (.iconst (-1), 1) := by decide +kernel
theorem dX0_readsBefore_136 : decode cX0_readsBefore 136 = .ok (.ixor, 1) := by decide +kernel
theorem dX0_readsBefore_137 : decode cX0_readsBefore 137 = .ok (.iand, 1) := by decide +kernel
theorem dX0_readsBefore_138 : decode cX0_readsBefore 138 = .ok (.iload 4, 2) := by decide +kernel
theorem dX0_readsBefore_140 : decode cX0_readsBefore 140 = .ok (.ior, 1) := by decide +kernel
theorem dX0_readsBefore_141 : decode cX0_readsBefore 141 = .ok (.ireturn, 1) := by decide +kernel
theorem dX0_readsBefore_142 : decode cX0_readsBefore 142 = .ok (.iload 6, 2) := by decide +kernel
theorem dX0_readsBefore_144 : decode cX0_readsBefore 144 = .ok (.iload 4, 2) := by decide +kernel
theorem dX0_readsBefore_146 : decode cX0_readsBefore 146 = .ok (.ior, 1) := by decide +kernel
theorem dX0_readsBefore_147 : decode cX0_readsBefore 147 = .ok (.ireturn, 1) := by decide +kernel
theorem dX0_readsBefore_148 : decode cX0_readsBefore 148 = .ok (.iload 4, 2) := by decide +kernel
theorem dX0_readsBefore_150 : decode cX0_readsBefore 150 = .ok (.ireturn, 1) := by decide +kernel
theorem dX0_readsAt_0 : decode cX0_readsAt 0 = .ok (.iload_n 2, 1) := by decide +kernel
theorem dX0_readsAt_1 : decode cX0_readsAt 1 = .ok (.ifCond .lt 13, 3) := by decide +kernel
theorem dX0_readsAt_4 : decode cX0_readsAt 4 = .ok (.iload_n 2, 1) := by decide +kernel
theorem dX0_readsAt_5 : decode cX0_readsAt 5 = .ok (.aload_n 0, 1) := by decide +kernel
theorem dX0_readsAt_6 : decode cX0_readsAt 6 = .ok (.getfield 7, 3) := by decide +kernel
theorem dX0_readsAt_9 : decode cX0_readsAt 9 = .ok (.iload_n 1, 1) := by decide +kernel
theorem dX0_readsAt_10 : decode cX0_readsAt 10 = .ok (.iaload, 1) := by decide +kernel
theorem dX0_readsAt_11 : decode cX0_readsAt 11 = .ok (.if_icmp .lt 7, 3) := by decide +kernel
theorem dX0_readsAt_14 : decode cX0_readsAt 14 = .ok (.iconst 0, 1) := by decide +kernel
theorem dX0_readsAt_15 : decode cX0_readsAt 15 = .ok (.goto 14, 3) := by decide +kernel
theorem dX0_readsAt_18 : decode cX0_readsAt 18 = .ok (.aload_n 0, 1) := by decide +kernel
theorem dX0_readsAt_19 : decode cX0_readsAt 19 = .ok (.getfield 25, 3) := by decide +kernel
theorem dX0_readsAt_22 : decode cX0_readsAt 22 = .ok (.iload_n 1, 1) := by decide +kernel
theorem dX0_readsAt_23 : decode cX0_readsAt 23 = .ok (.bipush 9, 2) := by decide +kernel
theorem dX0_readsAt_25 : decode cX0_readsAt 25 = .ok (.imul, 1) := by decide +kernel
theorem dX0_readsAt_26 : decode cX0_readsAt 26 = .ok (.iload_n 2, 1) := by decide +kernel
theorem dX0_readsAt_27 : decode cX0_readsAt 27 = .ok (.iadd, 1) := by decide +kernel
theorem dX0_readsAt_28 : decode cX0_readsAt 28 = .ok (.iaload, 1) := by decide +kernel
theorem dX0_readsAt_29 : decode cX0_readsAt 29 = .ok (.ireturn, 1) := by decide +kernel
theorem dX0_unpack_0 : decode cX0_unpack 0 = .ok (.iload_n 1, 1) := by decide +kernel
theorem dX0_unpack_1 : decode cX0_unpack 1 = .ok (.iconst 4, 1) := by decide +kernel
theorem dX0_unpack_2 : decode cX0_unpack 2 = .ok (.imul, 1) := by decide +kernel
theorem dX0_unpack_3 : decode cX0_unpack 3 = .ok (.iload_n 2, 1) := by decide +kernel
theorem dX0_unpack_4 : decode cX0_unpack 4 = .ok (.iadd, 1) := by decide +kernel
theorem dX0_unpack_5 : decode cX0_unpack 5 = .ok (.istore_n 3, 1) := by decide +kernel
theorem dX0_unpack_6 : decode cX0_unpack 6 = .ok (.aload_n 0, 1) := by decide +kernel
theorem dX0_unpack_7 : decode cX0_unpack 7 = .ok (.aload_n 0, 1) := by decide +kernel
theorem dX0_unpack_8 : decode cX0_unpack 8 = .ok (.getfield 40, 3) := by decide +kernel
theorem dX0_unpack_11 : decode cX0_unpack 11 = .ok (.iload_n 3, 1) := by decide +kernel
theorem dX0_unpack_12 : decode cX0_unpack 12 = .ok (.iaload, 1) := by decide +kernel
theorem dX0_unpack_13 : decode cX0_unpack 13 = .ok (.putfield 67, 3) := by decide +kernel
theorem dX0_unpack_16 : decode cX0_unpack 16 = .ok (.aload_n 0, 1) := by decide +kernel
theorem dX0_unpack_17 : decode cX0_unpack 17 = .ok (.aload_n 0, 1) := by decide +kernel
theorem dX0_unpack_18 : decode cX0_unpack 18 = .ok (.getfield 43, 3) := by decide +kernel
theorem dX0_unpack_21 : decode cX0_unpack 21 = .ok (.iload_n 3, 1) := by decide +kernel
theorem dX0_unpack_22 : decode cX0_unpack 22 = .ok (.iaload, 1) := by decide +kernel
theorem dX0_unpack_23 : decode cX0_unpack 23 = .ok (.putfield 71, 3) := by decide +kernel
theorem dX0_unpack_26 : decode cX0_unpack 26 = .ok (.iconst 0, 1) := by decide +kernel
theorem dX0_unpack_27 : decode cX0_unpack 27 = .ok (.istore 4, 2) := by decide +kernel
theorem dX0_unpack_29 : decode cX0_unpack 29 = .ok (.iload 4, 2) := by decide +kernel
theorem dX0_unpack_31 : decode cX0_unpack 31 = .ok (.iconst 4, 1) := by decide +kernel
theorem dX0_unpack_32 : decode cX0_unpack 32 = .ok (.if_icmp .ge 17, 3) := by decide +kernel
theorem dX0_unpack_35 : decode cX0_unpack 35 = .ok (.aload_n 0, 1) := by decide +kernel
theorem dX0_unpack_36 : decode cX0_unpack 36 = .ok (.getfield 49, 3) := by decide +kernel
theorem dX0_unpack_39 : decode cX0_unpack 39 = .ok (.iload 4, 2) := by decide +kernel
theorem dX0_unpack_41 : decode cX0_unpack 41 = .ok (.iconst 0, 1) := by decide +kernel
theorem dX0_unpack_42 : decode cX0_unpack 42 = .ok (.iastore, 1) := by decide +kernel
theorem dX0_unpack_43 : decode cX0_unpack 43 = .ok (.iinc 4 1, 3) := by decide +kernel
theorem dX0_unpack_46 : decode cX0_unpack 46 = .ok (.goto (-17), 3) := by decide +kernel
theorem dX0_unpack_49 : decode cX0_unpack 49 = .ok (.aload_n 0, 1) := by decide +kernel
theorem dX0_unpack_50 : decode cX0_unpack 50 = .ok (.getfield 71, 3) := by decide +kernel
theorem dX0_unpack_53 : decode cX0_unpack 53 = .ok (.ifCond .ge 18, 3) := by decide +kernel
theorem dX0_unpack_56 : decode cX0_unpack 56 = .ok (.aload_n 0, 1) := by decide +kernel
theorem dX0_unpack_57 : decode cX0_unpack 57 = .ok (.getfield 49, 3) := by decide +kernel
theorem dX0_unpack_60 : decode cX0_unpack 60 = .ok (.iconst 0, 1) := by decide +kernel
theorem dX0_unpack_61 : decode cX0_unpack 61 = .ok (.aload_n 0, 1) := by decide +kernel
theorem dX0_unpack_62 : decode cX0_unpack 62 = .ok (.getfield 46, 3) := by decide +kernel
theorem dX0_unpack_65 : decode cX0_unpack 65 = .ok (.iload_n 3, 1) := by decide +kernel
theorem dX0_unpack_66 : decode cX0_unpack 66 = .ok (.iconst 4, 1) := by decide +kernel
theorem dX0_unpack_67 : decode cX0_unpack 67 = .ok (.imul, 1) := by decide +kernel
theorem dX0_unpack_68 : decode cX0_unpack 68 = .ok (.iaload, 1) := by decide +kernel
theorem dX0_unpack_69 : decode cX0_unpack 69 = .ok (.iastore, 1) := by decide +kernel
theorem dX0_unpack_70 : decode cX0_unpack 70 = .ok (.return_, 1) := by decide +kernel
theorem dX0_unpack_71 : decode cX0_unpack 71 = .ok (.aload_n 0, 1) := by decide +kernel
theorem dX0_unpack_72 : decode cX0_unpack 72 = .ok (.aload_n 0, 1) := by decide +kernel
theorem dX0_unpack_73 : decode cX0_unpack 73 = .ok (.getfield 67, 3) := by decide +kernel
theorem dX0_unpack_76 : decode cX0_unpack 76 = .ok (.aload_n 0, 1) := by decide +kernel
theorem dX0_unpack_77 : decode cX0_unpack 77 = .ok (.getfield 71, 3) := by decide +kernel
theorem dX0_unpack_80 : decode cX0_unpack 80 = .ok (.invokevirtual 74, 3) := by decide +kernel
theorem dX0_unpack_83 : decode cX0_unpack 83 = .ok (.istore 4, 2) := by decide +kernel
theorem dX0_unpack_85 : decode cX0_unpack 85 = .ok (.iconst 0, 1) := by decide +kernel
theorem dX0_unpack_86 : decode cX0_unpack 86 = .ok (.istore 5, 2) := by decide +kernel
theorem dX0_unpack_88 : decode cX0_unpack 88 = .ok (.iconst 0, 1) := by decide +kernel
theorem dX0_unpack_89 : decode cX0_unpack 89 = .ok (.istore 6, 2) := by decide +kernel
theorem dX0_unpack_91 : decode cX0_unpack 91 = .ok (.iload 6, 2) := by decide +kernel
theorem dX0_unpack_93 : decode cX0_unpack 93 = .ok (.iconst 4, 1) := by decide +kernel
theorem dX0_unpack_94 : decode cX0_unpack 94 = .ok (.if_icmp .ge 41, 3) := by decide +kernel
theorem dX0_unpack_97 : decode cX0_unpack 97 = .ok (.iload 4, 2) := by decide +kernel
theorem dX0_unpack_99 : decode cX0_unpack 99 = .ok (.iload 6, 2) := by decide +kernel
theorem dX0_unpack_101 : decode cX0_unpack 101 = .ok (.ishr, 1) := by decide +kernel
theorem dX0_unpack_102 : decode cX0_unpack 102 = .ok (.iconst 1, 1) := by decide +kernel
theorem dX0_unpack_103 : decode cX0_unpack 103 = .ok (.iand, 1) := by decide +kernel
theorem dX0_unpack_104 : decode cX0_unpack 104 = .ok (.iconst 1, 1) := by decide +kernel
theorem dX0_unpack_105 : decode cX0_unpack 105 = .ok (.if_icmp .ne 24, 3) := by decide +kernel
theorem dX0_unpack_108 : decode cX0_unpack 108 = .ok (.aload_n 0, 1) := by decide +kernel
theorem dX0_unpack_109 : decode cX0_unpack 109 = .ok (.getfield 49, 3) := by decide +kernel
theorem dX0_unpack_112 : decode cX0_unpack 112 = .ok (.iload 6, 2) := by decide +kernel
theorem dX0_unpack_114 : decode cX0_unpack 114 = .ok (.aload_n 0, 1) := by decide +kernel
theorem dX0_unpack_115 : decode cX0_unpack 115 = .ok (.getfield 46, 3) := by decide +kernel
theorem dX0_unpack_118 : decode cX0_unpack 118 = .ok (.iload_n 3, 1) := by decide +kernel
theorem dX0_unpack_119 : decode cX0_unpack 119 = .ok (.iconst 4, 1) := by decide +kernel
theorem dX0_unpack_120 : decode cX0_unpack 120 = .ok (.imul, 1) := by decide +kernel
theorem dX0_unpack_121 : decode cX0_unpack 121 = .ok (.iload 5, 2) := by decide +kernel
theorem dX0_unpack_123 : decode cX0_unpack 123 = .ok (.iadd, 1) := by decide +kernel
theorem dX0_unpack_124 : decode cX0_unpack 124 = .ok (.iaload, 1) := by decide +kernel
theorem dX0_unpack_125 : decode cX0_unpack 125 = .ok (.iastore, 1) := by decide +kernel
theorem dX0_unpack_126 : decode cX0_unpack 126 = .ok (.iinc 5 1, 3) := by decide +kernel
theorem dX0_unpack_129 : decode cX0_unpack 129 = .ok (.iinc 6 1, 3) := by decide +kernel
theorem dX0_unpack_132 : decode cX0_unpack 132 = .ok (.goto (-41), 3) := by decide +kernel
theorem dX0_unpack_135 : decode cX0_unpack 135 = .ok (.return_, 1) := by decide +kernel
theorem dX0_keptAt_0 : decode cX0_keptAt 0 = .ok (.iload_n 1, 1) := by decide +kernel
theorem dX0_keptAt_1 : decode cX0_keptAt 1 = .ok (.bipush 8, 2) := by decide +kernel
theorem dX0_keptAt_3 : decode cX0_keptAt 3 = .ok (.imul, 1) := by decide +kernel
theorem dX0_keptAt_4 : decode cX0_keptAt 4 = .ok (.iload_n 2, 1) := by decide +kernel
theorem dX0_keptAt_5 : decode cX0_keptAt 5 = .ok (.iadd, 1) := by decide +kernel
theorem dX0_keptAt_6 : decode cX0_keptAt 6 = .ok (.istore_n 3, 1) := by decide +kernel
theorem dX0_keptAt_7 : decode cX0_keptAt 7 = .ok (.aload_n 0, 1) := by decide +kernel
theorem dX0_keptAt_8 : decode cX0_keptAt 8 = .ok (.getfield 13, 3) := by decide +kernel
theorem dX0_keptAt_11 : decode cX0_keptAt 11 = .ok (.iload_n 3, 1) := by decide +kernel
theorem dX0_keptAt_12 : decode cX0_keptAt 12 = .ok (.iaload, 1) := by decide +kernel
theorem dX0_keptAt_13 : decode cX0_keptAt 13 = .ok (.iconst 5, 1) := by decide +kernel
theorem dX0_keptAt_14 : decode cX0_keptAt 14 = .ok (.if_icmp .ne 12, 3) := by decide +kernel
theorem dX0_keptAt_17 : decode cX0_keptAt 17 = .ok (.aload_n 0, 1) := by decide +kernel
theorem dX0_keptAt_18 : decode cX0_keptAt 18 = .ok (.getfield 19, 3) := by decide +kernel
theorem dX0_keptAt_21 : decode cX0_keptAt 21 = .ok (.iload_n 3, 1) := by decide +kernel
theorem dX0_keptAt_22 : decode cX0_keptAt 22 = .ok (.iaload, 1) := by decide +kernel
theorem dX0_keptAt_23 : decode cX0_keptAt 23 = .ok (.goto 9, 3) := by decide +kernel
theorem dX0_keptAt_26 : decode cX0_keptAt 26 = .ok (.aload_n 0, 1) := by decide +kernel
theorem dX0_keptAt_27 : decode cX0_keptAt 27 = .ok (.getfield 16, 3) := by decide +kernel
theorem dX0_keptAt_30 : decode cX0_keptAt 30 = .ok (.iload_n 3, 1) := by decide +kernel
theorem dX0_keptAt_31 : decode cX0_keptAt 31 = .ok (.iaload, 1) := by decide +kernel
theorem dX0_keptAt_32 : decode cX0_keptAt 32 = .ok (.istore 4, 2) := by decide +kernel
theorem dX0_keptAt_34 : decode cX0_keptAt 34 = .ok (.aload_n 0, 1) := by decide +kernel
theorem dX0_keptAt_35 : decode cX0_keptAt 35 = .ok (.iload_n 1, 1) := by decide +kernel
theorem dX0_keptAt_36 : decode cX0_keptAt 36 = .ok (.iload_n 2, 1) := by decide +kernel
theorem dX0_keptAt_37 : decode cX0_keptAt 37 = .ok (.iconst 1, 1) := by decide +kernel
theorem dX0_keptAt_38 : decode cX0_keptAt 38 = .ok (.iadd, 1) := by decide +kernel
theorem dX0_keptAt_39 : decode cX0_keptAt 39 = .ok (.invokevirtual 56, 3) := by decide +kernel
theorem dX0_keptAt_42 : decode cX0_keptAt 42 = .ok (.istore 5, 2) := by decide +kernel
theorem dX0_keptAt_44 : decode cX0_keptAt 44 = .ok (.iload 5, 2) := by decide +kernel
theorem dX0_keptAt_46 : decode cX0_keptAt 46 = .ok (.iconst 1, 1) := by decide +kernel
theorem dX0_keptAt_47 : decode cX0_keptAt 47 = .ok (.iload 4, 2) := by decide +kernel
theorem dX0_keptAt_49 : decode cX0_keptAt 49 = .ok (.ishl, 1) := by decide +kernel
theorem dX0_keptAt_50 : decode cX0_keptAt 50 = .ok (.iconst (-1), 1) := by decide +kernel
theorem dX0_keptAt_51 : decode cX0_keptAt 51 = .ok (.ixor, 1) := by decide +kernel
theorem dX0_keptAt_52 : decode cX0_keptAt 52 = .ok (.iand, 1) := by decide +kernel
theorem dX0_keptAt_53 : decode cX0_keptAt 53 = .ok (.ireturn, 1) := by decide +kernel
theorem dX0_carryOn_0 : decode cX0_carryOn 0 = .ok (.aload_n 0, 1) := by decide +kernel
theorem dX0_carryOn_1 : decode cX0_carryOn 1 = .ok (.getfield 28, 3) := by decide +kernel
theorem dX0_carryOn_4 : decode cX0_carryOn 4 = .ok (.iload_n 1, 1) := by decide +kernel
theorem dX0_carryOn_5 : decode cX0_carryOn 5 = .ok (.iconst 5, 1) := by decide +kernel
theorem dX0_carryOn_6 : decode cX0_carryOn 6 = .ok (.iastore, 1) := by decide +kernel
theorem dX0_carryOn_7 : decode cX0_carryOn 7 = .ok (.aload_n 0, 1) := by decide +kernel
theorem dX0_carryOn_8 : decode cX0_carryOn 8 = .ok (.getfield 31, 3) := by decide +kernel
theorem dX0_carryOn_11 : decode cX0_carryOn 11 = .ok (.iload_n 1, 1) := by decide +kernel
theorem dX0_carryOn_12 : decode cX0_carryOn 12 = .ok (.iconst 0, 1) := by decide +kernel
theorem dX0_carryOn_13 : decode cX0_carryOn 13 = .ok (.iastore, 1) := by decide +kernel
theorem dX0_carryOn_14 : decode cX0_carryOn 14 = .ok (.iconst 0, 1) := by decide +kernel
theorem dX0_carryOn_15 : decode cX0_carryOn 15 = .ok (.istore_n 2, 1) := by decide +kernel
theorem dX0_carryOn_16 : decode cX0_carryOn 16 = .ok (.aload_n 0, 1) := by decide +kernel
theorem dX0_carryOn_17 : decode cX0_carryOn 17 = .ok (.iload_n 1, 1) := by decide +kernel
theorem dX0_carryOn_18 : decode cX0_carryOn 18 = .ok (.invokevirtual 98, 3) := by decide +kernel
theorem dX0_carryOn_21 : decode cX0_carryOn 21 = .ok (.iload_n 2, 1) := by decide +kernel
theorem dX0_carryOn_22 : decode cX0_carryOn 22 = .ok (.bipush 80, 2) := by decide +kernel
theorem dX0_carryOn_24 : decode cX0_carryOn 24 = .ok (.if_icmp .ge 29, 3) := by decide +kernel
theorem dX0_carryOn_27 : decode cX0_carryOn 27 = .ok (.aload_n 0, 1) := by decide +kernel
theorem dX0_carryOn_28 : decode cX0_carryOn 28 = .ok (.getfield 28, 3) := by decide +kernel
theorem dX0_carryOn_31 : decode cX0_carryOn 31 = .ok (.iload_n 1, 1) := by decide +kernel
theorem dX0_carryOn_32 : decode cX0_carryOn 32 = .ok (.iaload, 1) := by decide +kernel
theorem dX0_carryOn_33 : decode cX0_carryOn 33 = .ok (.iconst 5, 1) := by decide +kernel
theorem dX0_carryOn_34 : decode cX0_carryOn 34 = .ok (.if_icmp .ne 19, 3) := by decide +kernel
theorem dX0_carryOn_37 : decode cX0_carryOn 37 = .ok (.aload_n 0, 1) := by decide +kernel
theorem dX0_carryOn_38 : decode cX0_carryOn 38 = .ok (.iload_n 1, 1) := by decide +kernel
theorem dX0_carryOn_39 : decode cX0_carryOn 39 = .ok (.invokevirtual 102, 3) := by decide +kernel
theorem dX0_carryOn_42 : decode cX0_carryOn 42 = .ok (.iinc 2 1, 3) := by decide +kernel
theorem dX0_carryOn_45 : decode cX0_carryOn 45 = .ok (.aload_n 0, 1) := by decide +kernel
theorem dX0_carryOn_46 : decode cX0_carryOn 46 = .ok (.iload_n 1, 1) := by decide +kernel
theorem dX0_carryOn_47 : decode cX0_carryOn 47 = .ok (.invokevirtual 98, 3) := by decide +kernel
theorem dX0_carryOn_50 : decode cX0_carryOn 50 = .ok (.goto (-29), 3) := by decide +kernel
theorem dX0_carryOn_53 : decode cX0_carryOn 53 = .ok (.aload_n 0, 1) := by decide +kernel
theorem dX0_carryOn_54 : decode cX0_carryOn 54 = .ok (.getfield 28, 3) := by decide +kernel
theorem dX0_carryOn_57 : decode cX0_carryOn 57 = .ok (.iload_n 1, 1) := by decide +kernel
theorem dX0_carryOn_58 : decode cX0_carryOn 58 = .ok (.iaload, 1) := by decide +kernel
theorem dX0_carryOn_59 : decode cX0_carryOn 59 = .ok (.iconst 5, 1) := by decide +kernel
theorem dX0_carryOn_60 : decode cX0_carryOn 60 = .ok (.if_icmp .ne 10, 3) := by decide +kernel
theorem dX0_carryOn_63 : decode cX0_carryOn 63 = .ok (.aload_n 0, 1) := by decide +kernel
theorem dX0_carryOn_64 : decode cX0_carryOn 64 = .ok (.iload_n 1, 1) := by decide +kernel
theorem dX0_carryOn_65 : decode cX0_carryOn 65 = .ok (.iconst 4, 1) := by decide +kernel
theorem dX0_carryOn_66 : decode cX0_carryOn 66 = .ok (.iconst 0, 1) := by decide +kernel
theorem dX0_carryOn_67 : decode cX0_carryOn 67 = .ok (.invokevirtual 77, 3) := by decide +kernel
theorem dX0_carryOn_70 : decode cX0_carryOn 70 = .ok (.aload_n 0, 1) := by decide +kernel
theorem dX0_carryOn_71 : decode cX0_carryOn 71 = .ok (.getfield 34, 3) := by decide +kernel
theorem dX0_carryOn_74 : decode cX0_carryOn 74 = .ok (.iload_n 1, 1) := by decide +kernel
theorem dX0_carryOn_75 : decode cX0_carryOn 75 = .ok (.iload_n 2, 1) := by decide +kernel
theorem dX0_carryOn_76 : decode cX0_carryOn 76 = .ok (.iastore, 1) := by decide +kernel
theorem dX0_carryOn_77 : decode cX0_carryOn 77 = .ok (.return_, 1) := by decide +kernel
theorem dX0_returnAtEnd_0 : decode cX0_returnAtEnd 0 = .ok (.iconst 0, 1) := by decide +kernel
theorem dX0_returnAtEnd_1 : decode cX0_returnAtEnd 1 = .ok (.istore_n 2, 1) := by decide +kernel
theorem dX0_returnAtEnd_2 : decode cX0_returnAtEnd 2 = .ok (.iload_n 2, 1) := by decide +kernel
theorem dX0_returnAtEnd_3 : decode cX0_returnAtEnd 3 = .ok (.iconst 4, 1) := by decide +kernel
theorem dX0_returnAtEnd_4 : decode cX0_returnAtEnd 4 = .ok (.if_icmp .ge 32, 3) := by decide +kernel
theorem dX0_returnAtEnd_7 : decode cX0_returnAtEnd 7 = .ok (.aload_n 0, 1) := by decide +kernel
theorem dX0_returnAtEnd_8 : decode cX0_returnAtEnd 8 = .ok (.getfield 28, 3) := by decide +kernel
theorem dX0_returnAtEnd_11 : decode cX0_returnAtEnd 11 = .ok (.iload_n 1, 1) := by decide +kernel
theorem dX0_returnAtEnd_12 : decode cX0_returnAtEnd 12 = .ok (.iaload, 1) := by decide +kernel
theorem dX0_returnAtEnd_13 : decode cX0_returnAtEnd 13 = .ok (.iconst 5, 1) := by decide +kernel
theorem dX0_returnAtEnd_14 : decode cX0_returnAtEnd 14 = .ok (.if_icmp .ne 22, 3) := by decide +kernel
theorem dX0_returnAtEnd_17 : decode cX0_returnAtEnd 17 = .ok (.aload_n 0, 1) := by decide +kernel
theorem dX0_returnAtEnd_18 : decode cX0_returnAtEnd 18 = .ok (.invokevirtual 94, 3) := by decide +kernel
theorem dX0_returnAtEnd_21 : decode cX0_returnAtEnd 21 = .ok (.ifCond .eq 15, 3) := by decide +kernel
theorem dX0_returnAtEnd_24 : decode cX0_returnAtEnd 24 = .ok (.aload_n 0, 1) := by decide +kernel
theorem dX0_returnAtEnd_25 : decode cX0_returnAtEnd 25 = .ok (.iload_n 1, 1) := by decide +kernel
theorem dX0_returnAtEnd_26 : decode cX0_returnAtEnd 26 = .ok (.iconst 0, 1) := by decide +kernel
theorem dX0_returnAtEnd_27 : decode cX0_returnAtEnd 27 = .ok (.invokevirtual 91, 3) := by decide +kernel
theorem dX0_returnAtEnd_30 : decode cX0_returnAtEnd 30 = .ok (.iinc 2 1, 3) := by decide +kernel
theorem dX0_returnAtEnd_33 : decode cX0_returnAtEnd 33 = .ok (.goto (-31), 3) := by decide +kernel
theorem dX0_returnAtEnd_36 : decode cX0_returnAtEnd 36 = .ok (.return_, 1) := by decide +kernel
theorem dX0_pastEnd_0 : decode cX0_pastEnd 0 = .ok (.aload_n 0, 1) := by decide +kernel
theorem dX0_pastEnd_1 : decode cX0_pastEnd 1 = .ok (.getfield 71, 3) := by decide +kernel
theorem dX0_pastEnd_4 : decode cX0_pastEnd 4 = .ok (.ifCond .lt 19, 3) := by decide +kernel
theorem dX0_pastEnd_7 : decode cX0_pastEnd 7 = .ok (.aload_n 0, 1) := by decide +kernel
theorem dX0_pastEnd_8 : decode cX0_pastEnd 8 = .ok (.getfield 71, 3) := by decide +kernel
theorem dX0_pastEnd_11 : decode cX0_pastEnd 11 = .ok (.aload_n 0, 1) := by decide +kernel
theorem dX0_pastEnd_12 : decode cX0_pastEnd 12 = .ok (.getfield 7, 3) := by decide +kernel
theorem dX0_pastEnd_15 : decode cX0_pastEnd 15 = .ok (.aload_n 0, 1) := by decide +kernel
theorem dX0_pastEnd_16 : decode cX0_pastEnd 16 = .ok (.getfield 67, 3) := by decide +kernel
theorem dX0_pastEnd_19 : decode cX0_pastEnd 19 = .ok (.iaload, 1) := by decide +kernel
theorem dX0_pastEnd_20 : decode cX0_pastEnd 20 = .ok (.if_icmp .lt 7, 3) := by decide +kernel
theorem dX0_pastEnd_23 : decode cX0_pastEnd 23 = .ok (.iconst 1, 1) := by decide +kernel
theorem dX0_pastEnd_24 : decode cX0_pastEnd 24 = .ok (.goto 4, 3) := by decide +kernel
theorem dX0_pastEnd_27 : decode cX0_pastEnd 27 = .ok (.iconst 0, 1) := by decide +kernel
theorem dX0_pastEnd_28 : decode cX0_pastEnd 28 = .ok (.ireturn, 1) := by decide +kernel
theorem dX0_giveBack_0 : decode cX0_giveBack 0 = .ok (.aload_n 0, 1) := by decide +kernel
theorem dX0_giveBack_1 : decode cX0_giveBack 1 = .ok (.getfield 37, 3) := by decide +kernel
theorem dX0_giveBack_4 : decode cX0_giveBack 4 = .ok (.iload_n 1, 1) := by decide +kernel
theorem dX0_giveBack_5 : decode cX0_giveBack 5 = .ok (.dup2, 1) := by decide +kernel
theorem dX0_giveBack_6 : decode cX0_giveBack 6 = .ok (.iaload, 1) := by decide +kernel
theorem dX0_giveBack_7 : decode cX0_giveBack 7 = .ok (.iconst 1, 1) := by decide +kernel
theorem dX0_giveBack_8 : decode cX0_giveBack 8 = .ok (.isub, 1) := by decide +kernel
theorem dX0_giveBack_9 : decode cX0_giveBack 9 = .ok (.iastore, 1) := by decide +kernel
theorem dX0_giveBack_10 : decode cX0_giveBack 10 = .ok (.aload_n 0, 1) := by decide +kernel
theorem dX0_giveBack_11 : decode cX0_giveBack 11 = .ok (.getfield 37, 3) := by decide +kernel
theorem dX0_giveBack_14 : decode cX0_giveBack 14 = .ok (.iload_n 1, 1) := by decide +kernel
theorem dX0_giveBack_15 : decode cX0_giveBack 15 = .ok (.iaload, 1) := by decide +kernel
theorem dX0_giveBack_16 : decode cX0_giveBack 16 = .ok (.ifCond .ne 11, 3) := by decide +kernel
theorem dX0_giveBack_19 : decode cX0_giveBack 19 = .ok (.aload_n 0, 1) := by decide +kernel
theorem dX0_giveBack_20 : decode cX0_giveBack 20 = .ok (.iload_n 1, 1) := by decide +kernel
theorem dX0_giveBack_21 : decode cX0_giveBack 21 = .ok (.iconst 3, 1) := by decide +kernel
theorem dX0_giveBack_22 : decode cX0_giveBack 22 = .ok (.iload_n 2, 1) := by decide +kernel
theorem dX0_giveBack_23 : decode cX0_giveBack 23 = .ok (.invokevirtual 77, 3) := by decide +kernel
theorem dX0_giveBack_26 : decode cX0_giveBack 26 = .ok (.return_, 1) := by decide +kernel
theorem dX0_giveBack_27 : decode cX0_giveBack 27 = .ok (.aload_n 0, 1) := by decide +kernel
theorem dX0_giveBack_28 : decode cX0_giveBack 28 = .ok (.iload_n 1, 1) := by decide +kernel
theorem dX0_giveBack_29 : decode cX0_giveBack 29 = .ok (.aload_n 0, 1) := by decide +kernel
theorem dX0_giveBack_30 : decode cX0_giveBack 30 = .ok (.getfield 37, 3) := by decide +kernel
theorem dX0_giveBack_33 : decode cX0_giveBack 33 = .ok (.iload_n 1, 1) := by decide +kernel
theorem dX0_giveBack_34 : decode cX0_giveBack 34 = .ok (.iaload, 1) := by decide +kernel
theorem dX0_giveBack_35 : decode cX0_giveBack 35 = .ok (.iconst 1, 1) := by decide +kernel
theorem dX0_giveBack_36 : decode cX0_giveBack 36 = .ok (.isub, 1) := by decide +kernel
theorem dX0_giveBack_37 : decode cX0_giveBack 37 = .ok (.invokevirtual 81, 3) := by decide +kernel
theorem dX0_giveBack_40 : decode cX0_giveBack 40 = .ok (.aload_n 0, 1) := by decide +kernel
theorem dX0_giveBack_41 : decode cX0_giveBack 41 = .ok (.getfield 49, 3) := by decide +kernel
theorem dX0_giveBack_44 : decode cX0_giveBack 44 = .ok (.aload_n 0, 1) := by decide +kernel
theorem dX0_giveBack_45 : decode cX0_giveBack 45 = .ok (.getfield 16, 3) := by decide +kernel
theorem dX0_giveBack_48 : decode cX0_giveBack 48 = .ok (.aload_n 0, 1) := by decide +kernel
theorem dX0_giveBack_49 : decode cX0_giveBack 49 = .ok (.getfield 67, 3) := by decide +kernel
theorem dX0_giveBack_52 : decode cX0_giveBack 52 = .ok (.bipush 8, 2) := by decide +kernel
theorem dX0_giveBack_54 : decode cX0_giveBack 54 = .ok (.imul, 1) := by decide +kernel
theorem dX0_giveBack_55 : decode cX0_giveBack 55 = .ok (.aload_n 0, 1) := by decide +kernel
theorem dX0_giveBack_56 : decode cX0_giveBack 56 = .ok (.getfield 71, 3) := by decide +kernel
theorem dX0_giveBack_59 : decode cX0_giveBack 59 = .ok (.iadd, 1) := by decide +kernel
theorem dX0_giveBack_60 : decode cX0_giveBack 60 = .ok (.iaload, 1) := by decide +kernel
theorem dX0_giveBack_61 : decode cX0_giveBack 61 = .ok (.iload_n 2, 1) := by decide +kernel
theorem dX0_giveBack_62 : decode cX0_giveBack 62 = .ok (.iastore, 1) := by decide +kernel
theorem dX0_giveBack_63 : decode cX0_giveBack 63 = .ok (.aload_n 0, 1) := by decide +kernel
theorem dX0_giveBack_64 : decode cX0_giveBack 64 = .ok (.dup, 1) := by decide +kernel
theorem dX0_giveBack_65 : decode cX0_giveBack 65 = .ok (.getfield 71, 3) := by decide +kernel
theorem dX0_giveBack_68 : decode cX0_giveBack 68 = .ok (.iconst 1, 1) := by decide +kernel
theorem dX0_giveBack_69 : decode cX0_giveBack 69 = .ok (.iadd, 1) := by decide +kernel
theorem dX0_giveBack_70 : decode cX0_giveBack 70 = .ok (.putfield 71, 3) := by decide +kernel
theorem dX0_giveBack_73 : decode cX0_giveBack 73 = .ok (.return_, 1) := by decide +kernel
theorem dX0_finish_0 : decode cX0_finish 0 = .ok (.aload_n 0, 1) := by decide +kernel
theorem dX0_finish_1 : decode cX0_finish 1 = .ok (.getfield 28, 3) := by decide +kernel
theorem dX0_finish_4 : decode cX0_finish 4 = .ok (.iload_n 1, 1) := by decide +kernel
theorem dX0_finish_5 : decode cX0_finish 5 = .ok (.iload_n 2, 1) := by decide +kernel
theorem dX0_finish_6 : decode cX0_finish 6 = .ok (.iastore, 1) := by decide +kernel
theorem dX0_finish_7 : decode cX0_finish 7 = .ok (.aload_n 0, 1) := by decide +kernel
theorem dX0_finish_8 : decode cX0_finish 8 = .ok (.getfield 31, 3) := by decide +kernel
theorem dX0_finish_11 : decode cX0_finish 11 = .ok (.iload_n 1, 1) := by decide +kernel
theorem dX0_finish_12 : decode cX0_finish 12 = .ok (.iload_n 3, 1) := by decide +kernel
theorem dX0_finish_13 : decode cX0_finish 13 = .ok (.iastore, 1) := by decide +kernel
theorem dX0_finish_14 : decode cX0_finish 14 = .ok (.aload_n 0, 1) := by decide +kernel
theorem dX0_finish_15 : decode cX0_finish 15 = .ok (.getfield 37, 3) := by decide +kernel
theorem dX0_finish_18 : decode cX0_finish 18 = .ok (.iload_n 1, 1) := by decide +kernel
theorem dX0_finish_19 : decode cX0_finish 19 = .ok (.iconst 0, 1) := by decide +kernel
theorem dX0_finish_20 : decode cX0_finish 20 = .ok (.iastore, 1) := by decide +kernel
theorem dX0_finish_21 : decode cX0_finish 21 = .ok (.return_, 1) := by decide +kernel
theorem dX0_perform_0 : decode cX0_perform 0 = .ok (.aload_n 0, 1) := by decide +kernel
theorem dX0_perform_1 : decode cX0_perform 1 = .ok (.getfield 67, 3) := by decide +kernel
theorem dX0_perform_4 : decode cX0_perform 4 = .ok (.bipush 8, 2) := by decide +kernel
theorem dX0_perform_6 : decode cX0_perform 6 = .ok (.imul, 1) := by decide +kernel
theorem dX0_perform_7 : decode cX0_perform 7 = .ok (.aload_n 0, 1) := by decide +kernel
theorem dX0_perform_8 : decode cX0_perform 8 = .ok (.getfield 71, 3) := by decide +kernel
theorem dX0_perform_11 : decode cX0_perform 11 = .ok (.iadd, 1) := by decide +kernel
theorem dX0_perform_12 : decode cX0_perform 12 = .ok (.istore_n 2, 1) := by decide +kernel
theorem dX0_perform_13 : decode cX0_perform 13 = .ok (.aload_n 0, 1) := by decide +kernel
theorem dX0_perform_14 : decode cX0_perform 14 = .ok (.getfield 16, 3) := by decide +kernel
theorem dX0_perform_17 : decode cX0_perform 17 = .ok (.iload_n 2, 1) := by decide +kernel
theorem dX0_perform_18 : decode cX0_perform 18 = .ok (.iaload, 1) := by decide +kernel
theorem dX0_perform_19 : decode cX0_perform 19 = .ok (.istore_n 3, 1) := by decide +kernel
theorem dX0_perform_20 : decode cX0_perform 20 = .ok (.aload_n 0, 1) := by decide +kernel
theorem dX0_perform_21 : decode cX0_perform 21 = .ok (.getfield 19, 3) := by decide +kernel
theorem dX0_perform_24 : decode cX0_perform 24 = .ok (.iload_n 2, 1) := by decide +kernel
theorem dX0_perform_25 : decode cX0_perform 25 = .ok (.iaload, 1) := by decide +kernel
theorem dX0_perform_26 : decode cX0_perform 26 = .ok (.istore 4, 2) := by decide +kernel
theorem dX0_perform_28 : decode cX0_perform 28 = .ok (.aload_n 0, 1) := by decide +kernel
theorem dX0_perform_29 : decode cX0_perform 29 = .ok (.getfield 13, 3) := by decide +kernel
theorem dX0_perform_32 : decode cX0_perform 32 = .ok (.iload_n 2, 1) := by decide +kernel
theorem dX0_perform_33 : decode cX0_perform 33 = .ok (.iaload, 1) := by decide +kernel
theorem dX0_perform_34 : decode cX0_perform 34 = .ok (.tableswitch 183 0 6 #[42, 57, 80, 103, 114, 143, 176], 42) := by decide +kernel
theorem dX0_perform_76 : decode cX0_perform 76 = .ok (.aload_n 0, 1) := by decide +kernel
theorem dX0_perform_77 : decode cX0_perform 77 = .ok (.getfield 49, 3) := by decide +kernel
theorem dX0_perform_80 : decode cX0_perform 80 = .ok (.iload_n 3, 1) := by decide +kernel
theorem dX0_perform_81 : decode cX0_perform 81 = .ok (.aload_n 0, 1) := by decide +kernel
theorem dX0_perform_82 : decode cX0_perform 82 = .ok (.getfield 22, 3) := by decide +kernel
theorem dX0_perform_85 : decode cX0_perform 85 = .ok (.iload_n 2, 1) := by decide +kernel
theorem dX0_perform_86 : decode cX0_perform 86 = .ok (.iaload, 1) := by decide +kernel
theorem dX0_perform_87 : decode cX0_perform 87 = .ok (.iastore, 1) := by decide +kernel
theorem dX0_perform_88 : decode cX0_perform 88 = .ok (.goto 141, 3) := by decide +kernel
theorem dX0_perform_91 : decode cX0_perform 91 = .ok (.aload_n 0, 1) := by decide +kernel
theorem dX0_perform_92 : decode cX0_perform 92 = .ok (.getfield 49, 3) := by decide +kernel
theorem dX0_perform_95 : decode cX0_perform 95 = .ok (.iload_n 3, 1) := by decide +kernel
theorem dX0_perform_96 : decode cX0_perform 96 = .ok (.aload_n 0, 1) := by decide +kernel
theorem dX0_perform_97 : decode cX0_perform 97 = .ok (.getfield 49, 3) := by decide +kernel
theorem dX0_perform_100 : decode cX0_perform 100 = .ok (.iload_n 3, 1) := by decide +kernel
theorem dX0_perform_101 : decode cX0_perform 101 = .ok (.iaload, 1) := by decide +kernel
theorem dX0_perform_102 : decode cX0_perform 102 = .ok (.aload_n 0, 1) := by decide +kernel
theorem dX0_perform_103 : decode cX0_perform 103 = .ok (.getfield 49, 3) := by decide +kernel
theorem dX0_perform_106 : decode cX0_perform 106 = .ok (.iload 4, 2) := by decide +kernel
theorem dX0_perform_108 : decode cX0_perform 108 = .ok (.iaload, 1) := by decide +kernel
theorem dX0_perform_109 : decode cX0_perform 109 = .ok (.iadd, 1) := by decide +kernel
theorem dX0_perform_110 : decode cX0_perform 110 = .ok (.iastore, 1) := by decide +kernel
theorem dX0_perform_111 : decode cX0_perform 111 = .ok (.goto 118, 3) := by decide +kernel
theorem dX0_perform_114 : decode cX0_perform 114 = .ok (.aload_n 0, 1) := by decide +kernel
theorem dX0_perform_115 : decode cX0_perform 115 = .ok (.getfield 49, 3) := by decide +kernel
theorem dX0_perform_118 : decode cX0_perform 118 = .ok (.iload_n 3, 1) := by decide +kernel
theorem dX0_perform_119 : decode cX0_perform 119 = .ok (.aload_n 0, 1) := by decide +kernel
theorem dX0_perform_120 : decode cX0_perform 120 = .ok (.getfield 49, 3) := by decide +kernel
theorem dX0_perform_123 : decode cX0_perform 123 = .ok (.iload_n 3, 1) := by decide +kernel
theorem dX0_perform_124 : decode cX0_perform 124 = .ok (.iaload, 1) := by decide +kernel
theorem dX0_perform_125 : decode cX0_perform 125 = .ok (.aload_n 0, 1) := by decide +kernel
theorem dX0_perform_126 : decode cX0_perform 126 = .ok (.getfield 49, 3) := by decide +kernel
theorem dX0_perform_129 : decode cX0_perform 129 = .ok (.iload 4, 2) := by decide +kernel
theorem dX0_perform_131 : decode cX0_perform 131 = .ok (.iaload, 1) := by decide +kernel
theorem dX0_perform_132 : decode cX0_perform 132 = .ok (.isub, 1) := by decide +kernel
theorem dX0_perform_133 : decode cX0_perform 133 = .ok (.iastore, 1) := by decide +kernel
theorem dX0_perform_134 : decode cX0_perform 134 = .ok (.goto 95, 3) := by decide +kernel
theorem dX0_perform_137 : decode cX0_perform 137 = .ok (.aload_n 0, 1) := by decide +kernel
theorem dX0_perform_138 : decode cX0_perform 138 = .ok (.aload_n 0, 1) := by decide +kernel
theorem dX0_perform_139 : decode cX0_perform 139 = .ok (.getfield 22, 3) := by decide +kernel
theorem dX0_perform_142 : decode cX0_perform 142 = .ok (.iload_n 2, 1) := by decide +kernel
theorem dX0_perform_143 : decode cX0_perform 143 = .ok (.iaload, 1) := by decide +kernel
theorem dX0_perform_144 : decode cX0_perform 144 = .ok (.putfield 71, 3) := by decide +kernel
theorem dX0_perform_147 : decode cX0_perform 147 = .ok (.return_, 1) := by decide +kernel
theorem dX0_perform_148 : decode cX0_perform 148 = .ok (.aload_n 0, 1) := by decide +kernel
theorem dX0_perform_149 : decode cX0_perform 149 = .ok (.aload_n 0, 1) := by decide +kernel
theorem dX0_perform_150 : decode cX0_perform 150 = .ok (.getfield 49, 3) := by decide +kernel
theorem dX0_perform_153 : decode cX0_perform 153 = .ok (.iload_n 3, 1) := by decide +kernel
theorem dX0_perform_154 : decode cX0_perform 154 = .ok (.iaload, 1) := by decide +kernel
theorem dX0_perform_155 : decode cX0_perform 155 = .ok (.ifCond .le 12, 3) := by decide +kernel
theorem dX0_perform_158 : decode cX0_perform 158 = .ok (.aload_n 0, 1) := by decide +kernel
theorem dX0_perform_159 : decode cX0_perform 159 = .ok (.getfield 22, 3) := by decide +kernel
theorem dX0_perform_162 : decode cX0_perform 162 = .ok (.iload_n 2, 1) := by decide +kernel
theorem dX0_perform_163 : decode cX0_perform 163 = .ok (.iaload, 1) := by decide +kernel
theorem dX0_perform_164 : decode cX0_perform 164 = .ok (.goto 9, 3) := by decide +kernel
theorem dX0_perform_167 : decode cX0_perform 167 = .ok (.aload_n 0, 1) := by decide +kernel
theorem dX0_perform_168 : decode cX0_perform 168 = .ok (.getfield 71, 3) := by decide +kernel
theorem dX0_perform_171 : decode cX0_perform 171 = .ok (.iconst 1, 1) := by decide +kernel
theorem dX0_perform_172 : decode cX0_perform 172 = .ok (.iadd, 1) := by decide +kernel
theorem dX0_perform_173 : decode cX0_perform 173 = .ok (.putfield 71, 3) := by decide +kernel
theorem dX0_perform_176 : decode cX0_perform 176 = .ok (.return_, 1) := by decide +kernel
theorem dX0_perform_177 : decode cX0_perform 177 = .ok (.aload_n 0, 1) := by decide +kernel
theorem dX0_perform_178 : decode cX0_perform 178 = .ok (.getfield 28, 3) := by decide +kernel
theorem dX0_perform_181 : decode cX0_perform 181 = .ok (.iload_n 1, 1) := by decide +kernel
theorem dX0_perform_182 : decode cX0_perform 182 = .ok (.iconst 2, 1) := by decide +kernel
theorem dX0_perform_183 : decode cX0_perform 183 = .ok (.iastore, 1) := by decide +kernel
theorem dX0_perform_184 : decode cX0_perform 184 = .ok (.aload_n 0, 1) := by decide +kernel
theorem dX0_perform_185 : decode cX0_perform 185 = .ok (.getfield 31, 3) := by decide +kernel
theorem dX0_perform_188 : decode cX0_perform 188 = .ok (.iload_n 1, 1) := by decide +kernel
theorem dX0_perform_189 : decode cX0_perform 189 = .ok (.aload_n 0, 1) := by decide +kernel
theorem dX0_perform_190 : decode cX0_perform 190 = .ok (.getfield 49, 3) := by decide +kernel
theorem dX0_perform_193 : decode cX0_perform 193 = .ok (.iload_n 3, 1) := by decide +kernel
theorem dX0_perform_194 : decode cX0_perform 194 = .ok (.iaload, 1) := by decide +kernel
theorem dX0_perform_195 : decode cX0_perform 195 = .ok (.iastore, 1) := by decide +kernel
theorem dX0_perform_196 : decode cX0_perform 196 = .ok (.aload_n 0, 1) := by decide +kernel
theorem dX0_perform_197 : decode cX0_perform 197 = .ok (.iload_n 1, 1) := by decide +kernel
theorem dX0_perform_198 : decode cX0_perform 198 = .ok (.aload_n 0, 1) := by decide +kernel
theorem dX0_perform_199 : decode cX0_perform 199 = .ok (.getfield 37, 3) := by decide +kernel
end
section
set_option maxRecDepth 100000
theorem dX0_perform_202 : decode cX0_perform 202 = .ok (.iload_n 1, 1) := by decide +kernel
theorem dX0_perform_203 : decode cX0_perform 203 = .ok (.iaload, 1) := by decide +kernel
theorem dX0_perform_204 : decode cX0_perform 204 = .ok (.iconst 1, 1) := by decide +kernel
theorem dX0_perform_205 : decode cX0_perform 205 = .ok (.isub, 1) := by decide +kernel
theorem dX0_perform_206 : decode cX0_perform 206 = .ok (.invokevirtual 85, 3) := by decide +kernel
theorem dX0_perform_209 : decode cX0_perform 209 = .ok (.return_, 1) := by decide +kernel
theorem dX0_perform_210 : decode cX0_perform 210 = .ok (.aload_n 0, 1) := by decide +kernel
theorem dX0_perform_211 : decode cX0_perform 211 = .ok (.iload_n 1, 1) := by decide +kernel
theorem dX0_perform_212 : decode cX0_perform 212 = .ok (.iload_n 2, 1) := by decide +kernel
theorem dX0_perform_213 : decode cX0_perform 213 = .ok (.invokevirtual 88, 3) := by decide +kernel
theorem dX0_perform_216 : decode cX0_perform 216 = .ok (.return_, 1) := by decide +kernel
theorem dX0_perform_217 : decode cX0_perform 217 = .ok (.aload_n 0, 1) := by decide +kernel
theorem dX0_perform_218 : decode cX0_perform 218 = .ok (.iload_n 1, 1) := by decide +kernel
theorem dX0_perform_219 : decode cX0_perform 219 = .ok (.aload_n 0, 1) := by decide +kernel
theorem dX0_perform_220 : decode cX0_perform 220 = .ok (.getfield 49, 3) := by decide +kernel
theorem dX0_perform_223 : decode cX0_perform 223 = .ok (.iload_n 3, 1) := by decide +kernel
theorem dX0_perform_224 : decode cX0_perform 224 = .ok (.iaload, 1) := by decide +kernel
theorem dX0_perform_225 : decode cX0_perform 225 = .ok (.invokevirtual 91, 3) := by decide +kernel
theorem dX0_perform_228 : decode cX0_perform 228 = .ok (.return_, 1) := by decide +kernel
theorem dX0_perform_229 : decode cX0_perform 229 = .ok (.aload_n 0, 1) := by decide +kernel
theorem dX0_perform_230 : decode cX0_perform 230 = .ok (.dup, 1) := by decide +kernel
theorem dX0_perform_231 : decode cX0_perform 231 = .ok (.getfield 71, 3) := by decide +kernel
theorem dX0_perform_234 : decode cX0_perform 234 = .ok (.iconst 1, 1) := by decide +kernel
theorem dX0_perform_235 : decode cX0_perform 235 = .ok (.iadd, 1) := by decide +kernel
theorem dX0_perform_236 : decode cX0_perform 236 = .ok (.putfield 71, 3) := by decide +kernel
theorem dX0_perform_239 : decode cX0_perform 239 = .ok (.return_, 1) := by decide +kernel
theorem dX0_pack_0 : decode cX0_pack 0 = .ok (.iload_n 1, 1) := by decide +kernel
theorem dX0_pack_1 : decode cX0_pack 1 = .ok (.iconst 4, 1) := by decide +kernel
theorem dX0_pack_2 : decode cX0_pack 2 = .ok (.imul, 1) := by decide +kernel
theorem dX0_pack_3 : decode cX0_pack 3 = .ok (.iload_n 2, 1) := by decide +kernel
theorem dX0_pack_4 : decode cX0_pack 4 = .ok (.iadd, 1) := by decide +kernel
theorem dX0_pack_5 : decode cX0_pack 5 = .ok (.istore_n 3, 1) := by decide +kernel
theorem dX0_pack_6 : decode cX0_pack 6 = .ok (.aload_n 0, 1) := by decide +kernel
theorem dX0_pack_7 : decode cX0_pack 7 = .ok (.getfield 40, 3) := by decide +kernel
theorem dX0_pack_10 : decode cX0_pack 10 = .ok (.iload_n 3, 1) := by decide +kernel
theorem dX0_pack_11 : decode cX0_pack 11 = .ok (.aload_n 0, 1) := by decide +kernel
theorem dX0_pack_12 : decode cX0_pack 12 = .ok (.getfield 67, 3) := by decide +kernel
theorem dX0_pack_15 : decode cX0_pack 15 = .ok (.iastore, 1) := by decide +kernel
theorem dX0_pack_16 : decode cX0_pack 16 = .ok (.aload_n 0, 1) := by decide +kernel
theorem dX0_pack_17 : decode cX0_pack 17 = .ok (.getfield 43, 3) := by decide +kernel
theorem dX0_pack_20 : decode cX0_pack 20 = .ok (.iload_n 3, 1) := by decide +kernel
theorem dX0_pack_21 : decode cX0_pack 21 = .ok (.aload_n 0, 1) := by decide +kernel
theorem dX0_pack_22 : decode cX0_pack 22 = .ok (.getfield 71, 3) := by decide +kernel
theorem dX0_pack_25 : decode cX0_pack 25 = .ok (.iastore, 1) := by decide +kernel
theorem dX0_pack_26 : decode cX0_pack 26 = .ok (.aload_n 0, 1) := by decide +kernel
theorem dX0_pack_27 : decode cX0_pack 27 = .ok (.aload_n 0, 1) := by decide +kernel
theorem dX0_pack_28 : decode cX0_pack 28 = .ok (.getfield 67, 3) := by decide +kernel
theorem dX0_pack_31 : decode cX0_pack 31 = .ok (.aload_n 0, 1) := by decide +kernel
theorem dX0_pack_32 : decode cX0_pack 32 = .ok (.getfield 71, 3) := by decide +kernel
theorem dX0_pack_35 : decode cX0_pack 35 = .ok (.invokevirtual 74, 3) := by decide +kernel
theorem dX0_pack_38 : decode cX0_pack 38 = .ok (.istore 4, 2) := by decide +kernel
theorem dX0_pack_40 : decode cX0_pack 40 = .ok (.iconst 0, 1) := by decide +kernel
theorem dX0_pack_41 : decode cX0_pack 41 = .ok (.istore 5, 2) := by decide +kernel
theorem dX0_pack_43 : decode cX0_pack 43 = .ok (.iconst 0, 1) := by decide +kernel
theorem dX0_pack_44 : decode cX0_pack 44 = .ok (.istore 6, 2) := by decide +kernel
theorem dX0_pack_46 : decode cX0_pack 46 = .ok (.iload 6, 2) := by decide +kernel
theorem dX0_pack_48 : decode cX0_pack 48 = .ok (.iconst 4, 1) := by decide +kernel
theorem dX0_pack_49 : decode cX0_pack 49 = .ok (.if_icmp .ge 41, 3) := by decide +kernel
theorem dX0_pack_52 : decode cX0_pack 52 = .ok (.iload 4, 2) := by decide +kernel
theorem dX0_pack_54 : decode cX0_pack 54 = .ok (.iload 6, 2) := by decide +kernel
theorem dX0_pack_56 : decode cX0_pack 56 = .ok (.ishr, 1) := by decide +kernel
theorem dX0_pack_57 : decode cX0_pack 57 = .ok (.iconst 1, 1) := by decide +kernel
theorem dX0_pack_58 : decode cX0_pack 58 = .ok (.iand, 1) := by decide +kernel
theorem dX0_pack_59 : decode cX0_pack 59 = .ok (.iconst 1, 1) := by decide +kernel
theorem dX0_pack_60 : decode cX0_pack 60 = .ok (.if_icmp .ne 24, 3) := by decide +kernel
theorem dX0_pack_63 : decode cX0_pack 63 = .ok (.aload_n 0, 1) := by decide +kernel
theorem dX0_pack_64 : decode cX0_pack 64 = .ok (.getfield 46, 3) := by decide +kernel
theorem dX0_pack_67 : decode cX0_pack 67 = .ok (.iload_n 3, 1) := by decide +kernel
theorem dX0_pack_68 : decode cX0_pack 68 = .ok (.iconst 4, 1) := by decide +kernel
theorem dX0_pack_69 : decode cX0_pack 69 = .ok (.imul, 1) := by decide +kernel
theorem dX0_pack_70 : decode cX0_pack 70 = .ok (.iload 5, 2) := by decide +kernel
theorem dX0_pack_72 : decode cX0_pack 72 = .ok (.iadd, 1) := by decide +kernel
theorem dX0_pack_73 : decode cX0_pack 73 = .ok (.aload_n 0, 1) := by decide +kernel
theorem dX0_pack_74 : decode cX0_pack 74 = .ok (.getfield 49, 3) := by decide +kernel
theorem dX0_pack_77 : decode cX0_pack 77 = .ok (.iload 6, 2) := by decide +kernel
theorem dX0_pack_79 : decode cX0_pack 79 = .ok (.iaload, 1) := by decide +kernel
theorem dX0_pack_80 : decode cX0_pack 80 = .ok (.iastore, 1) := by decide +kernel
theorem dX0_pack_81 : decode cX0_pack 81 = .ok (.iinc 5 1, 3) := by decide +kernel
theorem dX0_pack_84 : decode cX0_pack 84 = .ok (.iinc 6 1, 3) := by decide +kernel
theorem dX0_pack_87 : decode cX0_pack 87 = .ok (.goto (-41), 3) := by decide +kernel
theorem dX0_pack_90 : decode cX0_pack 90 = .ok (.return_, 1) := by decide +kernel
theorem dX0_call_0 : decode cX0_call 0 = .ok (.aload_n 0, 1) := by decide +kernel
theorem dX0_call_1 : decode cX0_call 1 = .ok (.getfield 37, 3) := by decide +kernel
theorem dX0_call_4 : decode cX0_call 4 = .ok (.iload_n 1, 1) := by decide +kernel
theorem dX0_call_5 : decode cX0_call 5 = .ok (.iaload, 1) := by decide +kernel
theorem dX0_call_6 : decode cX0_call 6 = .ok (.iconst 4, 1) := by decide +kernel
theorem dX0_call_7 : decode cX0_call 7 = .ok (.if_icmp .lt 11, 3) := by decide +kernel
theorem dX0_call_10 : decode cX0_call 10 = .ok (.aload_n 0, 1) := by decide +kernel
theorem dX0_call_11 : decode cX0_call 11 = .ok (.iload_n 1, 1) := by decide +kernel
theorem dX0_call_12 : decode cX0_call 12 = .ok (.iconst 4, 1) := by decide +kernel
theorem dX0_call_13 : decode cX0_call 13 = .ok (.iconst 0, 1) := by decide +kernel
theorem dX0_call_14 : decode cX0_call 14 = .ok (.invokevirtual 77, 3) := by decide +kernel
theorem dX0_call_17 : decode cX0_call 17 = .ok (.return_, 1) := by decide +kernel
theorem dX0_call_18 : decode cX0_call 18 = .ok (.aload_n 0, 1) := by decide +kernel
theorem dX0_call_19 : decode cX0_call 19 = .ok (.getfield 49, 3) := by decide +kernel
theorem dX0_call_22 : decode cX0_call 22 = .ok (.aload_n 0, 1) := by decide +kernel
theorem dX0_call_23 : decode cX0_call 23 = .ok (.getfield 16, 3) := by decide +kernel
theorem dX0_call_26 : decode cX0_call 26 = .ok (.iload_n 2, 1) := by decide +kernel
theorem dX0_call_27 : decode cX0_call 27 = .ok (.iaload, 1) := by decide +kernel
theorem dX0_call_28 : decode cX0_call 28 = .ok (.iaload, 1) := by decide +kernel
theorem dX0_call_29 : decode cX0_call 29 = .ok (.istore_n 3, 1) := by decide +kernel
theorem dX0_call_30 : decode cX0_call 30 = .ok (.aload_n 0, 1) := by decide +kernel
theorem dX0_call_31 : decode cX0_call 31 = .ok (.iload_n 1, 1) := by decide +kernel
theorem dX0_call_32 : decode cX0_call 32 = .ok (.aload_n 0, 1) := by decide +kernel
theorem dX0_call_33 : decode cX0_call 33 = .ok (.getfield 37, 3) := by decide +kernel
theorem dX0_call_36 : decode cX0_call 36 = .ok (.iload_n 1, 1) := by decide +kernel
theorem dX0_call_37 : decode cX0_call 37 = .ok (.iaload, 1) := by decide +kernel
theorem dX0_call_38 : decode cX0_call 38 = .ok (.iconst 1, 1) := by decide +kernel
theorem dX0_call_39 : decode cX0_call 39 = .ok (.isub, 1) := by decide +kernel
theorem dX0_call_40 : decode cX0_call 40 = .ok (.invokevirtual 85, 3) := by decide +kernel
theorem dX0_call_43 : decode cX0_call 43 = .ok (.aload_n 0, 1) := by decide +kernel
theorem dX0_call_44 : decode cX0_call 44 = .ok (.getfield 37, 3) := by decide +kernel
theorem dX0_call_47 : decode cX0_call 47 = .ok (.iload_n 1, 1) := by decide +kernel
theorem dX0_call_48 : decode cX0_call 48 = .ok (.dup2, 1) := by decide +kernel
theorem dX0_call_49 : decode cX0_call 49 = .ok (.iaload, 1) := by decide +kernel
theorem dX0_call_50 : decode cX0_call 50 = .ok (.iconst 1, 1) := by decide +kernel
theorem dX0_call_51 : decode cX0_call 51 = .ok (.iadd, 1) := by decide +kernel
theorem dX0_call_52 : decode cX0_call 52 = .ok (.iastore, 1) := by decide +kernel
theorem dX0_call_53 : decode cX0_call 53 = .ok (.aload_n 0, 1) := by decide +kernel
theorem dX0_call_54 : decode cX0_call 54 = .ok (.getfield 22, 3) := by decide +kernel
theorem dX0_call_57 : decode cX0_call 57 = .ok (.iload_n 2, 1) := by decide +kernel
theorem dX0_call_58 : decode cX0_call 58 = .ok (.iaload, 1) := by decide +kernel
theorem dX0_call_59 : decode cX0_call 59 = .ok (.iconst 3, 1) := by decide +kernel
theorem dX0_call_60 : decode cX0_call 60 = .ok (.irem, 1) := by decide +kernel
theorem dX0_call_61 : decode cX0_call 61 = .ok (.istore 4, 2) := by decide +kernel
theorem dX0_call_63 : decode cX0_call 63 = .ok (.aload_n 0, 1) := by decide +kernel
theorem dX0_call_64 : decode cX0_call 64 = .ok (.iload 4, 2) := by decide +kernel
theorem dX0_call_66 : decode cX0_call 66 = .ok (.ifCond .ge 10, 3) := by decide +kernel
theorem dX0_call_69 : decode cX0_call 69 = .ok (.iload 4, 2) := by decide +kernel
theorem dX0_call_71 : decode cX0_call 71 = .ok (.iconst 3, 1) := by decide +kernel
theorem dX0_call_72 : decode cX0_call 72 = .ok (.iadd, 1) := by decide +kernel
theorem dX0_call_73 : decode cX0_call 73 = .ok (.goto 5, 3) := by decide +kernel
theorem dX0_call_76 : decode cX0_call 76 = .ok (.iload 4, 2) := by decide +kernel
theorem dX0_call_78 : decode cX0_call 78 = .ok (.putfield 67, 3) := by decide +kernel
theorem dX0_call_81 : decode cX0_call 81 = .ok (.aload_n 0, 1) := by decide +kernel
theorem dX0_call_82 : decode cX0_call 82 = .ok (.iconst 0, 1) := by decide +kernel
theorem dX0_call_83 : decode cX0_call 83 = .ok (.putfield 71, 3) := by decide +kernel
theorem dX0_call_86 : decode cX0_call 86 = .ok (.iconst 0, 1) := by decide +kernel
theorem dX0_call_87 : decode cX0_call 87 = .ok (.istore 5, 2) := by decide +kernel
theorem dX0_call_89 : decode cX0_call 89 = .ok (.iload 5, 2) := by decide +kernel
theorem dX0_call_91 : decode cX0_call 91 = .ok (.iconst 4, 1) := by decide +kernel
theorem dX0_call_92 : decode cX0_call 92 = .ok (.if_icmp .ge 17, 3) := by decide +kernel
theorem dX0_call_95 : decode cX0_call 95 = .ok (.aload_n 0, 1) := by decide +kernel
theorem dX0_call_96 : decode cX0_call 96 = .ok (.getfield 49, 3) := by decide +kernel
theorem dX0_call_99 : decode cX0_call 99 = .ok (.iload 5, 2) := by decide +kernel
theorem dX0_call_101 : decode cX0_call 101 = .ok (.iconst 0, 1) := by decide +kernel
theorem dX0_call_102 : decode cX0_call 102 = .ok (.iastore, 1) := by decide +kernel
theorem dX0_call_103 : decode cX0_call 103 = .ok (.iinc 5 1, 3) := by decide +kernel
theorem dX0_call_106 : decode cX0_call 106 = .ok (.goto (-17), 3) := by decide +kernel
theorem dX0_call_109 : decode cX0_call 109 = .ok (.aload_n 0, 1) := by decide +kernel
theorem dX0_call_110 : decode cX0_call 110 = .ok (.getfield 49, 3) := by decide +kernel
theorem dX0_call_113 : decode cX0_call 113 = .ok (.iconst 0, 1) := by decide +kernel
theorem dX0_call_114 : decode cX0_call 114 = .ok (.iload_n 3, 1) := by decide +kernel
theorem dX0_call_115 : decode cX0_call 115 = .ok (.iastore, 1) := by decide +kernel
theorem dX0_call_116 : decode cX0_call 116 = .ok (.return_, 1) := by decide +kernel
theorem dX0_echo_0 : decode cX0_echo 0 = .ok (.iload_n 1, 1) := by decide +kernel
theorem dX0_echo_1 : decode cX0_echo 1 = .ok (.invokestatic 105, 3) := by decide +kernel
theorem dX0_echo_4 : decode cX0_echo 4 = .ok (.ifCond .eq 5, 3) := by decide +kernel
theorem dX0_echo_7 : decode cX0_echo 7 = .ok (.iconst (-1), 1) := by decide +kernel
theorem dX0_echo_8 : decode cX0_echo 8 = .ok (.ireturn, 1) := by decide +kernel
theorem dX0_echo_9 : decode cX0_echo 9 = .ok (.aload_n 0, 1) := by decide +kernel
theorem dX0_echo_10 : decode cX0_echo 10 = .ok (.getfield 28, 3) := by decide +kernel
theorem dX0_echo_13 : decode cX0_echo 13 = .ok (.iload_n 1, 1) := by decide +kernel
theorem dX0_echo_14 : decode cX0_echo 14 = .ok (.iaload, 1) := by decide +kernel
theorem dX0_echo_15 : decode cX0_echo 15 = .ok (.iconst 2, 1) := by decide +kernel
theorem dX0_echo_16 : decode cX0_echo 16 = .ok (.if_icmp .eq 6, 3) := by decide +kernel
theorem dX0_echo_19 : decode cX0_echo 19 = .ok (.bipush (-4), 2) := by decide +kernel
theorem dX0_echo_21 : decode cX0_echo 21 = .ok (.ireturn, 1) := by decide +kernel
theorem dX0_echo_22 : decode cX0_echo 22 = .ok (.iload_n 2, 1) := by decide +kernel
theorem dX0_echo_23 : decode cX0_echo 23 = .ok (.bipush 20, 2) := by decide +kernel
theorem dX0_echo_25 : decode cX0_echo 25 = .ok (.if_icmp .le 8, 3) := by decide +kernel
theorem dX0_echo_28 : decode cX0_echo 28 = .ok (.bipush 20, 2) := by decide +kernel
theorem dX0_echo_30 : decode cX0_echo 30 = .ok (.goto 4, 3) := by decide +kernel
theorem dX0_echo_33 : decode cX0_echo 33 = .ok (.iload_n 2, 1) := by decide +kernel
theorem dX0_echo_34 : decode cX0_echo 34 = .ok (.istore_n 3, 1) := by decide +kernel
theorem dX0_echo_35 : decode cX0_echo 35 = .ok (.iconst 0, 1) := by decide +kernel
theorem dX0_echo_36 : decode cX0_echo 36 = .ok (.istore 4, 2) := by decide +kernel
theorem dX0_echo_38 : decode cX0_echo 38 = .ok (.iconst 0, 1) := by decide +kernel
theorem dX0_echo_39 : decode cX0_echo 39 = .ok (.istore 5, 2) := by decide +kernel
theorem dX0_echo_41 : decode cX0_echo 41 = .ok (.iload 5, 2) := by decide +kernel
theorem dX0_echo_43 : decode cX0_echo 43 = .ok (.iload_n 3, 1) := by decide +kernel
theorem dX0_echo_44 : decode cX0_echo 44 = .ok (.if_icmp .ge 42, 3) := by decide +kernel
theorem dX0_echo_47 : decode cX0_echo 47 = .ok (.aload_n 0, 1) := by decide +kernel
theorem dX0_echo_48 : decode cX0_echo 48 = .ok (.getfield 28, 3) := by decide +kernel
theorem dX0_echo_51 : decode cX0_echo 51 = .ok (.iload_n 1, 1) := by decide +kernel
theorem dX0_echo_52 : decode cX0_echo 52 = .ok (.iaload, 1) := by decide +kernel
theorem dX0_echo_53 : decode cX0_echo 53 = .ok (.iconst 2, 1) := by decide +kernel
theorem dX0_echo_54 : decode cX0_echo 54 = .ok (.if_icmp .ne 32, 3) := by decide +kernel
theorem dX0_echo_57 : decode cX0_echo 57 = .ok (.aload_n 0, 1) := by decide +kernel
theorem dX0_echo_58 : decode cX0_echo 58 = .ok (.iload_n 1, 1) := by decide +kernel
theorem dX0_echo_59 : decode cX0_echo 59 = .ok (.aload_n 0, 1) := by decide +kernel
theorem dX0_echo_60 : decode cX0_echo 60 = .ok (.getfield 31, 3) := by decide +kernel
theorem dX0_echo_63 : decode cX0_echo 63 = .ok (.iload_n 1, 1) := by decide +kernel
theorem dX0_echo_64 : decode cX0_echo 64 = .ok (.iaload, 1) := by decide +kernel
theorem dX0_echo_65 : decode cX0_echo 65 = .ok (.invokevirtual 115, 3) := by decide +kernel
theorem dX0_echo_68 : decode cX0_echo 68 = .ok (.pop, 1) := by decide +kernel
theorem dX0_echo_69 : decode cX0_echo 69 = .ok (.iload 4, 2) := by decide +kernel
theorem dX0_echo_71 : decode cX0_echo 71 = .ok (.aload_n 0, 1) := by decide +kernel
theorem dX0_echo_72 : decode cX0_echo 72 = .ok (.getfield 31, 3) := by decide +kernel
theorem dX0_echo_75 : decode cX0_echo 75 = .ok (.iload_n 1, 1) := by decide +kernel
theorem dX0_echo_76 : decode cX0_echo 76 = .ok (.iaload, 1) := by decide +kernel
theorem dX0_echo_77 : decode cX0_echo 77 = .ok (.iadd, 1) := by decide +kernel
theorem dX0_echo_78 : decode cX0_echo 78 = .ok (.istore 4, 2) := by decide +kernel
theorem dX0_echo_80 : decode cX0_echo 80 = .ok (.iinc 5 1, 3) := by decide +kernel
theorem dX0_echo_83 : decode cX0_echo 83 = .ok (.goto (-42), 3) := by decide +kernel
theorem dX0_echo_86 : decode cX0_echo 86 = .ok (.iload 4, 2) := by decide +kernel
theorem dX0_echo_88 : decode cX0_echo 88 = .ok (.ireturn, 1) := by decide +kernel
theorem dX0_copy_0 : decode cX0_copy 0 = .ok (.iload_n 1, 1) := by decide +kernel
theorem dX0_copy_1 : decode cX0_copy 1 = .ok (.invokestatic 105, 3) := by decide +kernel
theorem dX0_copy_4 : decode cX0_copy 4 = .ok (.ifCond .ne 10, 3) := by decide +kernel
theorem dX0_copy_7 : decode cX0_copy 7 = .ok (.iload_n 2, 1) := by decide +kernel
theorem dX0_copy_8 : decode cX0_copy 8 = .ok (.invokestatic 105, 3) := by decide +kernel
theorem dX0_copy_11 : decode cX0_copy 11 = .ok (.ifCond .eq 5, 3) := by decide +kernel
theorem dX0_copy_14 : decode cX0_copy 14 = .ok (.iconst (-1), 1) := by decide +kernel
theorem dX0_copy_15 : decode cX0_copy 15 = .ok (.ireturn, 1) := by decide +kernel
theorem dX0_copy_16 : decode cX0_copy 16 = .ok (.aload_n 0, 1) := by decide +kernel
theorem dX0_copy_17 : decode cX0_copy 17 = .ok (.getfield 28, 3) := by decide +kernel
theorem dX0_copy_20 : decode cX0_copy 20 = .ok (.iload_n 2, 1) := by decide +kernel
theorem dX0_copy_21 : decode cX0_copy 21 = .ok (.aload_n 0, 1) := by decide +kernel
theorem dX0_copy_22 : decode cX0_copy 22 = .ok (.getfield 28, 3) := by decide +kernel
theorem dX0_copy_25 : decode cX0_copy 25 = .ok (.iload_n 1, 1) := by decide +kernel
theorem dX0_copy_26 : decode cX0_copy 26 = .ok (.iaload, 1) := by decide +kernel
theorem dX0_copy_27 : decode cX0_copy 27 = .ok (.iastore, 1) := by decide +kernel
theorem dX0_copy_28 : decode cX0_copy 28 = .ok (.aload_n 0, 1) := by decide +kernel
theorem dX0_copy_29 : decode cX0_copy 29 = .ok (.getfield 31, 3) := by decide +kernel
theorem dX0_copy_32 : decode cX0_copy 32 = .ok (.iload_n 2, 1) := by decide +kernel
theorem dX0_copy_33 : decode cX0_copy 33 = .ok (.aload_n 0, 1) := by decide +kernel
theorem dX0_copy_34 : decode cX0_copy 34 = .ok (.getfield 31, 3) := by decide +kernel
theorem dX0_copy_37 : decode cX0_copy 37 = .ok (.iload_n 1, 1) := by decide +kernel
theorem dX0_copy_38 : decode cX0_copy 38 = .ok (.iaload, 1) := by decide +kernel
theorem dX0_copy_39 : decode cX0_copy 39 = .ok (.iastore, 1) := by decide +kernel
theorem dX0_copy_40 : decode cX0_copy 40 = .ok (.aload_n 0, 1) := by decide +kernel
theorem dX0_copy_41 : decode cX0_copy 41 = .ok (.getfield 34, 3) := by decide +kernel
theorem dX0_copy_44 : decode cX0_copy 44 = .ok (.iload_n 2, 1) := by decide +kernel
theorem dX0_copy_45 : decode cX0_copy 45 = .ok (.aload_n 0, 1) := by decide +kernel
theorem dX0_copy_46 : decode cX0_copy 46 = .ok (.getfield 34, 3) := by decide +kernel
theorem dX0_copy_49 : decode cX0_copy 49 = .ok (.iload_n 1, 1) := by decide +kernel
theorem dX0_copy_50 : decode cX0_copy 50 = .ok (.iaload, 1) := by decide +kernel
theorem dX0_copy_51 : decode cX0_copy 51 = .ok (.iastore, 1) := by decide +kernel
theorem dX0_copy_52 : decode cX0_copy 52 = .ok (.aload_n 0, 1) := by decide +kernel
theorem dX0_copy_53 : decode cX0_copy 53 = .ok (.getfield 37, 3) := by decide +kernel
theorem dX0_copy_56 : decode cX0_copy 56 = .ok (.iload_n 2, 1) := by decide +kernel
theorem dX0_copy_57 : decode cX0_copy 57 = .ok (.aload_n 0, 1) := by decide +kernel
theorem dX0_copy_58 : decode cX0_copy 58 = .ok (.getfield 37, 3) := by decide +kernel
theorem dX0_copy_61 : decode cX0_copy 61 = .ok (.iload_n 1, 1) := by decide +kernel
theorem dX0_copy_62 : decode cX0_copy 62 = .ok (.iaload, 1) := by decide +kernel
theorem dX0_copy_63 : decode cX0_copy 63 = .ok (.iastore, 1) := by decide +kernel
theorem dX0_copy_64 : decode cX0_copy 64 = .ok (.iconst 0, 1) := by decide +kernel
theorem dX0_copy_65 : decode cX0_copy 65 = .ok (.istore_n 3, 1) := by decide +kernel
theorem dX0_copy_66 : decode cX0_copy 66 = .ok (.iload_n 3, 1) := by decide +kernel
theorem dX0_copy_67 : decode cX0_copy 67 = .ok (.iconst 4, 1) := by decide +kernel
theorem dX0_copy_68 : decode cX0_copy 68 = .ok (.if_icmp .ge 49, 3) := by decide +kernel
theorem dX0_copy_71 : decode cX0_copy 71 = .ok (.aload_n 0, 1) := by decide +kernel
theorem dX0_copy_72 : decode cX0_copy 72 = .ok (.getfield 40, 3) := by decide +kernel
theorem dX0_copy_75 : decode cX0_copy 75 = .ok (.iload_n 2, 1) := by decide +kernel
theorem dX0_copy_76 : decode cX0_copy 76 = .ok (.iconst 4, 1) := by decide +kernel
theorem dX0_copy_77 : decode cX0_copy 77 = .ok (.imul, 1) := by decide +kernel
theorem dX0_copy_78 : decode cX0_copy 78 = .ok (.iload_n 3, 1) := by decide +kernel
theorem dX0_copy_79 : decode cX0_copy 79 = .ok (.iadd, 1) := by decide +kernel
theorem dX0_copy_80 : decode cX0_copy 80 = .ok (.aload_n 0, 1) := by decide +kernel
theorem dX0_copy_81 : decode cX0_copy 81 = .ok (.getfield 40, 3) := by decide +kernel
theorem dX0_copy_84 : decode cX0_copy 84 = .ok (.iload_n 1, 1) := by decide +kernel
theorem dX0_copy_85 : decode cX0_copy 85 = .ok (.iconst 4, 1) := by decide +kernel
theorem dX0_copy_86 : decode cX0_copy 86 = .ok (.imul, 1) := by decide +kernel
theorem dX0_copy_87 : decode cX0_copy 87 = .ok (.iload_n 3, 1) := by decide +kernel
theorem dX0_copy_88 : decode cX0_copy 88 = .ok (.iadd, 1) := by decide +kernel
theorem dX0_copy_89 : decode cX0_copy 89 = .ok (.iaload, 1) := by decide +kernel
theorem dX0_copy_90 : decode cX0_copy 90 = .ok (.iastore, 1) := by decide +kernel
theorem dX0_copy_91 : decode cX0_copy 91 = .ok (.aload_n 0, 1) := by decide +kernel
theorem dX0_copy_92 : decode cX0_copy 92 = .ok (.getfield 43, 3) := by decide +kernel
theorem dX0_copy_95 : decode cX0_copy 95 = .ok (.iload_n 2, 1) := by decide +kernel
theorem dX0_copy_96 : decode cX0_copy 96 = .ok (.iconst 4, 1) := by decide +kernel
theorem dX0_copy_97 : decode cX0_copy 97 = .ok (.imul, 1) := by decide +kernel
theorem dX0_copy_98 : decode cX0_copy 98 = .ok (.iload_n 3, 1) := by decide +kernel
theorem dX0_copy_99 : decode cX0_copy 99 = .ok (.iadd, 1) := by decide +kernel
theorem dX0_copy_100 : decode cX0_copy 100 = .ok (.aload_n 0, 1) := by decide +kernel
theorem dX0_copy_101 : decode cX0_copy 101 = .ok (.getfield 43, 3) := by decide +kernel
theorem dX0_copy_104 : decode cX0_copy 104 = .ok (.iload_n 1, 1) := by decide +kernel
theorem dX0_copy_105 : decode cX0_copy 105 = .ok (.iconst 4, 1) := by decide +kernel
theorem dX0_copy_106 : decode cX0_copy 106 = .ok (.imul, 1) := by decide +kernel
theorem dX0_copy_107 : decode cX0_copy 107 = .ok (.iload_n 3, 1) := by decide +kernel
theorem dX0_copy_108 : decode cX0_copy 108 = .ok (.iadd, 1) := by decide +kernel
theorem dX0_copy_109 : decode cX0_copy 109 = .ok (.iaload, 1) := by decide +kernel
theorem dX0_copy_110 : decode cX0_copy 110 = .ok (.iastore, 1) := by decide +kernel
theorem dX0_copy_111 : decode cX0_copy 111 = .ok (.iinc 3 1, 3) := by decide +kernel
theorem dX0_copy_114 : decode cX0_copy 114 = .ok (.goto (-48), 3) := by decide +kernel
theorem dX0_copy_117 : decode cX0_copy 117 = .ok (.iconst 0, 1) := by decide +kernel
theorem dX0_copy_118 : decode cX0_copy 118 = .ok (.istore_n 3, 1) := by decide +kernel
theorem dX0_copy_119 : decode cX0_copy 119 = .ok (.iload_n 3, 1) := by decide +kernel
theorem dX0_copy_120 : decode cX0_copy 120 = .ok (.bipush 16, 2) := by decide +kernel
theorem dX0_copy_122 : decode cX0_copy 122 = .ok (.if_icmp .ge 31, 3) := by decide +kernel
theorem dX0_copy_125 : decode cX0_copy 125 = .ok (.aload_n 0, 1) := by decide +kernel
theorem dX0_copy_126 : decode cX0_copy 126 = .ok (.getfield 46, 3) := by decide +kernel
theorem dX0_copy_129 : decode cX0_copy 129 = .ok (.iload_n 2, 1) := by decide +kernel
theorem dX0_copy_130 : decode cX0_copy 130 = .ok (.bipush 16, 2) := by decide +kernel
theorem dX0_copy_132 : decode cX0_copy 132 = .ok (.imul, 1) := by decide +kernel
theorem dX0_copy_133 : decode cX0_copy 133 = .ok (.iload_n 3, 1) := by decide +kernel
theorem dX0_copy_134 : decode cX0_copy 134 = .ok (.iadd, 1) := by decide +kernel
theorem dX0_copy_135 : decode cX0_copy 135 = .ok (.aload_n 0, 1) := by decide +kernel
theorem dX0_copy_136 : decode cX0_copy 136 = .ok (.getfield 46, 3) := by decide +kernel
theorem dX0_copy_139 : decode cX0_copy 139 = .ok (.iload_n 1, 1) := by decide +kernel
theorem dX0_copy_140 : decode cX0_copy 140 = .ok (.bipush 16, 2) := by decide +kernel
theorem dX0_copy_142 : decode cX0_copy 142 = .ok (.imul, 1) := by decide +kernel
theorem dX0_copy_143 : decode cX0_copy 143 = .ok (.iload_n 3, 1) := by decide +kernel
theorem dX0_copy_144 : decode cX0_copy 144 = .ok (.iadd, 1) := by decide +kernel
theorem dX0_copy_145 : decode cX0_copy 145 = .ok (.iaload, 1) := by decide +kernel
theorem dX0_copy_146 : decode cX0_copy 146 = .ok (.iastore, 1) := by decide +kernel
theorem dX0_copy_147 : decode cX0_copy 147 = .ok (.iinc 3 1, 3) := by decide +kernel
theorem dX0_copy_150 : decode cX0_copy 150 = .ok (.goto (-31), 3) := by decide +kernel
theorem dX0_copy_153 : decode cX0_copy 153 = .ok (.aload_n 0, 1) := by decide +kernel
theorem dX0_copy_154 : decode cX0_copy 154 = .ok (.getfield 28, 3) := by decide +kernel
theorem dX0_copy_157 : decode cX0_copy 157 = .ok (.iload_n 2, 1) := by decide +kernel
theorem dX0_copy_158 : decode cX0_copy 158 = .ok (.iaload, 1) := by decide +kernel
theorem dX0_copy_159 : decode cX0_copy 159 = .ok (.ireturn, 1) := by decide +kernel
theorem dX0_drop_0 : decode cX0_drop 0 = .ok (.iload_n 1, 1) := by decide +kernel
theorem dX0_drop_1 : decode cX0_drop 1 = .ok (.invokestatic 105, 3) := by decide +kernel
theorem dX0_drop_4 : decode cX0_drop 4 = .ok (.ifCond .eq 5, 3) := by decide +kernel
theorem dX0_drop_7 : decode cX0_drop 7 = .ok (.iconst (-1), 1) := by decide +kernel
theorem dX0_drop_8 : decode cX0_drop 8 = .ok (.ireturn, 1) := by decide +kernel
theorem dX0_drop_9 : decode cX0_drop 9 = .ok (.aload_n 0, 1) := by decide +kernel
theorem dX0_drop_10 : decode cX0_drop 10 = .ok (.getfield 28, 3) := by decide +kernel
theorem dX0_drop_13 : decode cX0_drop 13 = .ok (.iload_n 1, 1) := by decide +kernel
theorem dX0_drop_14 : decode cX0_drop 14 = .ok (.iaload, 1) := by decide +kernel
theorem dX0_drop_15 : decode cX0_drop 15 = .ok (.istore_n 2, 1) := by decide +kernel
theorem dX0_drop_16 : decode cX0_drop 16 = .ok (.aload_n 0, 1) := by decide +kernel
theorem dX0_drop_17 : decode cX0_drop 17 = .ok (.iload_n 1, 1) := by decide +kernel
theorem dX0_drop_18 : decode cX0_drop 18 = .ok (.iconst 0, 1) := by decide +kernel
theorem dX0_drop_19 : decode cX0_drop 19 = .ok (.iconst 0, 1) := by decide +kernel
theorem dX0_drop_20 : decode cX0_drop 20 = .ok (.invokevirtual 77, 3) := by decide +kernel
theorem dX0_drop_23 : decode cX0_drop 23 = .ok (.aload_n 0, 1) := by decide +kernel
theorem dX0_drop_24 : decode cX0_drop 24 = .ok (.getfield 34, 3) := by decide +kernel
theorem dX0_drop_27 : decode cX0_drop 27 = .ok (.iload_n 1, 1) := by decide +kernel
theorem dX0_drop_28 : decode cX0_drop 28 = .ok (.iconst 0, 1) := by decide +kernel
theorem dX0_drop_29 : decode cX0_drop 29 = .ok (.iastore, 1) := by decide +kernel
theorem dX0_drop_30 : decode cX0_drop 30 = .ok (.iload_n 2, 1) := by decide +kernel
theorem dX0_drop_31 : decode cX0_drop 31 = .ok (.ireturn, 1) := by decide +kernel
theorem dX0_state_0 : decode cX0_state 0 = .ok (.iload_n 1, 1) := by decide +kernel
theorem dX0_state_1 : decode cX0_state 1 = .ok (.invokestatic 105, 3) := by decide +kernel
theorem dX0_state_4 : decode cX0_state 4 = .ok (.ifCond .eq 7, 3) := by decide +kernel
theorem dX0_state_7 : decode cX0_state 7 = .ok (.iconst (-1), 1) := by decide +kernel
theorem dX0_state_8 : decode cX0_state 8 = .ok (.goto 9, 3) := by decide +kernel
theorem dX0_state_11 : decode cX0_state 11 = .ok (.aload_n 0, 1) := by decide +kernel
theorem dX0_state_12 : decode cX0_state 12 = .ok (.getfield 28, 3) := by decide +kernel
theorem dX0_state_15 : decode cX0_state 15 = .ok (.iload_n 1, 1) := by decide +kernel
theorem dX0_state_16 : decode cX0_state 16 = .ok (.iaload, 1) := by decide +kernel
theorem dX0_state_17 : decode cX0_state 17 = .ok (.ireturn, 1) := by decide +kernel
theorem dX0_value_0 : decode cX0_value 0 = .ok (.iload_n 1, 1) := by decide +kernel
theorem dX0_value_1 : decode cX0_value 1 = .ok (.invokestatic 105, 3) := by decide +kernel
theorem dX0_value_4 : decode cX0_value 4 = .ok (.ifCond .eq 7, 3) := by decide +kernel
theorem dX0_value_7 : decode cX0_value 7 = .ok (.iconst (-1), 1) := by decide +kernel
theorem dX0_value_8 : decode cX0_value 8 = .ok (.goto 9, 3) := by decide +kernel
theorem dX0_value_11 : decode cX0_value 11 = .ok (.aload_n 0, 1) := by decide +kernel
theorem dX0_value_12 : decode cX0_value 12 = .ok (.getfield 31, 3) := by decide +kernel
theorem dX0_value_15 : decode cX0_value 15 = .ok (.iload_n 1, 1) := by decide +kernel
theorem dX0_value_16 : decode cX0_value 16 = .ok (.iaload, 1) := by decide +kernel
theorem dX0_value_17 : decode cX0_value 17 = .ok (.ireturn, 1) := by decide +kernel
theorem dX0_depth_0 : decode cX0_depth 0 = .ok (.iload_n 1, 1) := by decide +kernel
theorem dX0_depth_1 : decode cX0_depth 1 = .ok (.invokestatic 105, 3) := by decide +kernel
theorem dX0_depth_4 : decode cX0_depth 4 = .ok (.ifCond .eq 7, 3) := by decide +kernel
theorem dX0_depth_7 : decode cX0_depth 7 = .ok (.iconst (-1), 1) := by decide +kernel
theorem dX0_depth_8 : decode cX0_depth 8 = .ok (.goto 9, 3) := by decide +kernel
theorem dX0_depth_11 : decode cX0_depth 11 = .ok (.aload_n 0, 1) := by decide +kernel
theorem dX0_depth_12 : decode cX0_depth 12 = .ok (.getfield 37, 3) := by decide +kernel
theorem dX0_depth_15 : decode cX0_depth 15 = .ok (.iload_n 1, 1) := by decide +kernel
theorem dX0_depth_16 : decode cX0_depth 16 = .ok (.iaload, 1) := by decide +kernel
theorem dX0_depth_17 : decode cX0_depth 17 = .ok (.ireturn, 1) := by decide +kernel
theorem dX0_alike_0 : decode cX0_alike 0 = .ok (.iload_n 1, 1) := by decide +kernel
theorem dX0_alike_1 : decode cX0_alike 1 = .ok (.invokestatic 105, 3) := by decide +kernel
theorem dX0_alike_4 : decode cX0_alike 4 = .ok (.ifCond .ne 10, 3) := by decide +kernel
theorem dX0_alike_7 : decode cX0_alike 7 = .ok (.iload_n 2, 1) := by decide +kernel
theorem dX0_alike_8 : decode cX0_alike 8 = .ok (.invokestatic 105, 3) := by decide +kernel
theorem dX0_alike_11 : decode cX0_alike 11 = .ok (.ifCond .eq 5, 3) := by decide +kernel
theorem dX0_alike_14 : decode cX0_alike 14 = .ok (.iconst 0, 1) := by decide +kernel
theorem dX0_alike_15 : decode cX0_alike 15 = .ok (.ireturn, 1) := by decide +kernel
theorem dX0_alike_16 : decode cX0_alike 16 = .ok (.aload_n 0, 1) := by decide +kernel
theorem dX0_alike_17 : decode cX0_alike 17 = .ok (.getfield 28, 3) := by decide +kernel
theorem dX0_alike_20 : decode cX0_alike 20 = .ok (.iload_n 1, 1) := by decide +kernel
theorem dX0_alike_21 : decode cX0_alike 21 = .ok (.iaload, 1) := by decide +kernel
theorem dX0_alike_22 : decode cX0_alike 22 = .ok (.aload_n 0, 1) := by decide +kernel
theorem dX0_alike_23 : decode cX0_alike 23 = .ok (.getfield 28, 3) := by decide +kernel
theorem dX0_alike_26 : decode cX0_alike 26 = .ok (.iload_n 2, 1) := by decide +kernel
theorem dX0_alike_27 : decode cX0_alike 27 = .ok (.iaload, 1) := by decide +kernel
theorem dX0_alike_28 : decode cX0_alike 28 = .ok (.if_icmp .ne 22, 3) := by decide +kernel
theorem dX0_alike_31 : decode cX0_alike 31 = .ok (.aload_n 0, 1) := by decide +kernel
theorem dX0_alike_32 : decode cX0_alike 32 = .ok (.getfield 31, 3) := by decide +kernel
theorem dX0_alike_35 : decode cX0_alike 35 = .ok (.iload_n 1, 1) := by decide +kernel
theorem dX0_alike_36 : decode cX0_alike 36 = .ok (.iaload, 1) := by decide +kernel
theorem dX0_alike_37 : decode cX0_alike 37 = .ok (.aload_n 0, 1) := by decide +kernel
theorem dX0_alike_38 : decode cX0_alike 38 = .ok (.getfield 31, 3) := by decide +kernel
theorem dX0_alike_41 : decode cX0_alike 41 = .ok (.iload_n 2, 1) := by decide +kernel
theorem dX0_alike_42 : decode cX0_alike 42 = .ok (.iaload, 1) := by decide +kernel
theorem dX0_alike_43 : decode cX0_alike 43 = .ok (.if_icmp .ne 7, 3) := by decide +kernel
theorem dX0_alike_46 : decode cX0_alike 46 = .ok (.iconst 1, 1) := by decide +kernel
theorem dX0_alike_47 : decode cX0_alike 47 = .ok (.goto 4, 3) := by decide +kernel
theorem dX0_alike_50 : decode cX0_alike 50 = .ok (.iconst 0, 1) := by decide +kernel
theorem dX0_alike_51 : decode cX0_alike 51 = .ok (.ireturn, 1) := by decide +kernel
theorem dX0_steps_0 : decode cX0_steps 0 = .ok (.iload_n 1, 1) := by decide +kernel
theorem dX0_steps_1 : decode cX0_steps 1 = .ok (.invokestatic 105, 3) := by decide +kernel
theorem dX0_steps_4 : decode cX0_steps 4 = .ok (.ifCond .eq 7, 3) := by decide +kernel
theorem dX0_steps_7 : decode cX0_steps 7 = .ok (.iconst (-1), 1) := by decide +kernel
theorem dX0_steps_8 : decode cX0_steps 8 = .ok (.goto 9, 3) := by decide +kernel
theorem dX0_steps_11 : decode cX0_steps 11 = .ok (.aload_n 0, 1) := by decide +kernel
theorem dX0_steps_12 : decode cX0_steps 12 = .ok (.getfield 34, 3) := by decide +kernel
theorem dX0_steps_15 : decode cX0_steps 15 = .ok (.iload_n 1, 1) := by decide +kernel
theorem dX0_steps_16 : decode cX0_steps 16 = .ok (.iaload, 1) := by decide +kernel
theorem dX0_steps_17 : decode cX0_steps 17 = .ok (.ireturn, 1) := by decide +kernel
end
section
set_option maxRecDepth 100000
theorem dJ0_init_0 : decode cJ0_init 0 = .ok (.return_, 1) := by decide +kernel
theorem dX1_init_0 : decode cX1_init 0 = .ok (.aload_n 0, 1) := by decide +kernel
theorem dX1_init_1 : decode cX1_init 1 = .ok (.invokespecial 1, 3) := by decide +kernel
theorem dX1_init_4 : decode cX1_init 4 = .ok (.aload_n 0, 1) := by decide +kernel
theorem dX1_init_5 : decode cX1_init 5 = .ok (.iconst 3, 1) := by decide +kernel
theorem dX1_init_6 : decode cX1_init 6 = .ok (.newarray .int, 2) := by decide +kernel
theorem dX1_init_8 : decode cX1_init 8 = .ok (.putfield 7, 3) := by decide +kernel
theorem dX1_init_11 : decode cX1_init 11 = .ok (.aload_n 0, 1) := by decide +kernel
theorem dX1_init_12 : decode cX1_init 12 = .ok (.bipush 24, 2) := by decide +kernel
theorem dX1_init_14 : decode cX1_init 14 = .ok (.newarray .int, 2) := by decide +kernel
theorem dX1_init_16 : decode cX1_init 16 = .ok (.putfield 13, 3) := by decide +kernel
theorem dX1_init_19 : decode cX1_init 19 = .ok (.aload_n 0, 1) := by decide +kernel
theorem dX1_init_20 : decode cX1_init 20 = .ok (.bipush 24, 2) := by decide +kernel
theorem dX1_init_22 : decode cX1_init 22 = .ok (.newarray .int, 2) := by decide +kernel
theorem dX1_init_24 : decode cX1_init 24 = .ok (.putfield 16, 3) := by decide +kernel
theorem dX1_init_27 : decode cX1_init 27 = .ok (.aload_n 0, 1) := by decide +kernel
theorem dX1_init_28 : decode cX1_init 28 = .ok (.bipush 24, 2) := by decide +kernel
theorem dX1_init_30 : decode cX1_init 30 = .ok (.newarray .int, 2) := by decide +kernel
theorem dX1_init_32 : decode cX1_init 32 = .ok (.putfield 19, 3) := by decide +kernel
theorem dX1_init_35 : decode cX1_init 35 = .ok (.aload_n 0, 1) := by decide +kernel
theorem dX1_init_36 : decode cX1_init 36 = .ok (.iconst 4, 1) := by decide +kernel
theorem dX1_init_37 : decode cX1_init 37 = .ok (.newarray .int, 2) := by decide +kernel
theorem dX1_init_39 : decode cX1_init 39 = .ok (.putfield 22, 3) := by decide +kernel
theorem dX1_init_42 : decode cX1_init 42 = .ok (.aload_n 0, 1) := by decide +kernel
theorem dX1_init_43 : decode cX1_init 43 = .ok (.iconst 4, 1) := by decide +kernel
theorem dX1_init_44 : decode cX1_init 44 = .ok (.newarray .int, 2) := by decide +kernel
theorem dX1_init_46 : decode cX1_init 46 = .ok (.putfield 25, 3) := by decide +kernel
theorem dX1_init_49 : decode cX1_init 49 = .ok (.aload_n 0, 1) := by decide +kernel
theorem dX1_init_50 : decode cX1_init 50 = .ok (.iconst 4, 1) := by decide +kernel
theorem dX1_init_51 : decode cX1_init 51 = .ok (.newarray .int, 2) := by decide +kernel
theorem dX1_init_53 : decode cX1_init 53 = .ok (.putfield 28, 3) := by decide +kernel
theorem dX1_init_56 : decode cX1_init 56 = .ok (.aload_n 0, 1) := by decide +kernel
theorem dX1_init_57 : decode cX1_init 57 = .ok (.iconst 4, 1) := by decide +kernel
theorem dX1_init_58 : decode cX1_init 58 = .ok (.newarray .int, 2) := by decide +kernel
theorem dX1_init_60 : decode cX1_init 60 = .ok (.putfield 31, 3) := by decide +kernel
theorem dX1_init_63 : decode cX1_init 63 = .ok (.aload_n 0, 1) := by decide +kernel
theorem dX1_init_64 : decode cX1_init 64 = .ok (.bipush 16, 2) := by decide +kernel
theorem dX1_init_66 : decode cX1_init 66 = .ok (.newarray .int, 2) := by decide +kernel
theorem dX1_init_68 : decode cX1_init 68 = .ok (.putfield 34, 3) := by decide +kernel
theorem dX1_init_71 : decode cX1_init 71 = .ok (.aload_n 0, 1) := by decide +kernel
theorem dX1_init_72 : decode cX1_init 72 = .ok (.bipush 16, 2) := by decide +kernel
theorem dX1_init_74 : decode cX1_init 74 = .ok (.newarray .int, 2) := by decide +kernel
theorem dX1_init_76 : decode cX1_init 76 = .ok (.putfield 37, 3) := by decide +kernel
theorem dX1_init_79 : decode cX1_init 79 = .ok (.aload_n 0, 1) := by decide +kernel
theorem dX1_init_80 : decode cX1_init 80 = .ok (.bipush 16, 2) := by decide +kernel
theorem dX1_init_82 : decode cX1_init 82 = .ok (.newarray .int, 2) := by decide +kernel
theorem dX1_init_84 : decode cX1_init 84 = .ok (.putfield 40, 3) := by decide +kernel
theorem dX1_init_87 : decode cX1_init 87 = .ok (.aload_n 0, 1) := by decide +kernel
theorem dX1_init_88 : decode cX1_init 88 = .ok (.bipush 64, 2) := by decide +kernel
theorem dX1_init_90 : decode cX1_init 90 = .ok (.newarray .int, 2) := by decide +kernel
theorem dX1_init_92 : decode cX1_init 92 = .ok (.putfield 43, 3) := by decide +kernel
theorem dX1_init_95 : decode cX1_init 95 = .ok (.return_, 1) := by decide +kernel
theorem dX1_emit_0 : decode cX1_emit 0 = .ok (.iload_n 1, 1) := by decide +kernel
theorem dX1_emit_1 : decode cX1_emit 1 = .ok (.ifCond .lt 18, 3) := by decide +kernel
theorem dX1_emit_4 : decode cX1_emit 4 = .ok (.iload_n 1, 1) := by decide +kernel
theorem dX1_emit_5 : decode cX1_emit 5 = .ok (.iconst 2, 1) := by decide +kernel
theorem dX1_emit_6 : decode cX1_emit 6 = .ok (.if_icmp .gt 13, 3) := by decide +kernel
theorem dX1_emit_9 : decode cX1_emit 9 = .ok (.iload_n 2, 1) := by decide +kernel
theorem dX1_emit_10 : decode cX1_emit 10 = .ok (.ifCond .lt 9, 3) := by decide +kernel
theorem dX1_emit_13 : decode cX1_emit 13 = .ok (.iload_n 2, 1) := by decide +kernel
theorem dX1_emit_14 : decode cX1_emit 14 = .ok (.bipush 7, 2) := by decide +kernel
theorem dX1_emit_16 : decode cX1_emit 16 = .ok (.if_icmp .le 5, 3) := by decide +kernel
theorem dX1_emit_19 : decode cX1_emit 19 = .ok (.iconst (-1), 1) := by decide +kernel
theorem dX1_emit_20 : decode cX1_emit 20 = .ok (.ireturn, 1) := by decide +kernel
theorem dX1_emit_21 : decode cX1_emit 21 = .ok (.iconst 0, 1) := by decide +kernel
theorem dX1_emit_22 : decode cX1_emit 22 = .ok (.istore 5, 2) := by decide +kernel
theorem dX1_emit_24 : decode cX1_emit 24 = .ok (.iload 5, 2) := by decide +kernel
theorem dX1_emit_26 : decode cX1_emit 26 = .ok (.iconst 4, 1) := by decide +kernel
theorem dX1_emit_27 : decode cX1_emit 27 = .ok (.if_icmp .ge 22, 3) := by decide +kernel
theorem dX1_emit_30 : decode cX1_emit 30 = .ok (.aload_n 0, 1) := by decide +kernel
theorem dX1_emit_31 : decode cX1_emit 31 = .ok (.getfield 22, 3) := by decide +kernel
theorem dX1_emit_34 : decode cX1_emit 34 = .ok (.iload 5, 2) := by decide +kernel
theorem dX1_emit_36 : decode cX1_emit 36 = .ok (.iaload, 1) := by decide +kernel
theorem dX1_emit_37 : decode cX1_emit 37 = .ok (.ifCond .eq 6, 3) := by decide +kernel
theorem dX1_emit_40 : decode cX1_emit 40 = .ok (.bipush (-3), 2) := by decide +kernel
theorem dX1_emit_42 : decode cX1_emit 42 = .ok (.ireturn, 1) := by decide +kernel
theorem dX1_emit_43 : decode cX1_emit 43 = .ok (.iinc 5 1, 3) := by decide +kernel
theorem dX1_emit_46 : decode cX1_emit 46 = .ok (.goto (-22), 3) := by decide +kernel
theorem dX1_emit_49 : decode cX1_emit 49 = .ok (.aload_n 0, 1) := by decide +kernel
theorem dX1_emit_50 : decode cX1_emit 50 = .ok (.getfield 7, 3) := by decide +kernel
theorem dX1_emit_53 : decode cX1_emit 53 = .ok (.iload_n 1, 1) := by decide +kernel
theorem dX1_emit_54 : decode cX1_emit 54 = .ok (.iaload, 1) := by decide +kernel
theorem dX1_emit_55 : decode cX1_emit 55 = .ok (.istore 5, 2) := by decide +kernel
theorem dX1_emit_57 : decode cX1_emit 57 = .ok (.iload 5, 2) := by decide +kernel
theorem dX1_emit_59 : decode cX1_emit 59 = .ok (.bipush 8, 2) := by decide +kernel
theorem dX1_emit_61 : decode cX1_emit 61 = .ok (.if_icmp .ne 6, 3) := by decide +kernel
theorem dX1_emit_64 : decode cX1_emit 64 = .ok (.bipush (-2), 2) := by decide +kernel
theorem dX1_emit_66 : decode cX1_emit 66 = .ok (.ireturn, 1) := by decide +kernel
theorem dX1_emit_67 : decode cX1_emit 67 = .ok (.aload_n 0, 1) := by decide +kernel
theorem dX1_emit_68 : decode cX1_emit 68 = .ok (.getfield 13, 3) := by decide +kernel
theorem dX1_emit_71 : decode cX1_emit 71 = .ok (.iload_n 1, 1) := by decide +kernel
theorem dX1_emit_72 : decode cX1_emit 72 = .ok (.bipush 8, 2) := by decide +kernel
theorem dX1_emit_74 : decode cX1_emit 74 = .ok (.imul, 1) := by decide +kernel
theorem dX1_emit_75 : decode cX1_emit 75 = .ok (.iload 5, 2) := by decide +kernel
theorem dX1_emit_77 : decode cX1_emit 77 = .ok (.iadd, 1) := by decide +kernel
theorem dX1_emit_78 : decode cX1_emit 78 = .ok (.iload_n 2, 1) := by decide +kernel
theorem dX1_emit_79 : decode cX1_emit 79 = .ok (.iastore, 1) := by decide +kernel
theorem dX1_emit_80 : decode cX1_emit 80 = .ok (.aload_n 0, 1) := by decide +kernel
theorem dX1_emit_81 : decode cX1_emit 81 = .ok (.getfield 16, 3) := by decide +kernel
theorem dX1_emit_84 : decode cX1_emit 84 = .ok (.iload_n 1, 1) := by decide +kernel
theorem dX1_emit_85 : decode cX1_emit 85 = .ok (.bipush 8, 2) := by decide +kernel
theorem dX1_emit_87 : decode cX1_emit 87 = .ok (.imul, 1) := by decide +kernel
theorem dX1_emit_88 : decode cX1_emit 88 = .ok (.iload 5, 2) := by decide +kernel
theorem dX1_emit_90 : decode cX1_emit 90 = .ok (.iadd, 1) := by decide +kernel
theorem dX1_emit_91 : decode cX1_emit 91 = .ok (.iload_n 3, 1) := by decide +kernel
theorem dX1_emit_92 : decode cX1_emit 92 = .ok (.iastore, 1) := by decide +kernel
theorem dX1_emit_93 : decode cX1_emit 93 = .ok (.aload_n 0, 1) := by decide +kernel
theorem dX1_emit_94 : decode cX1_emit 94 = .ok (.getfield 19, 3) := by decide +kernel
theorem dX1_emit_97 : decode cX1_emit 97 = .ok (.iload_n 1, 1) := by decide +kernel
theorem dX1_emit_98 : decode cX1_emit 98 = .ok (.bipush 8, 2) := by decide +kernel
theorem dX1_emit_100 : decode cX1_emit 100 = .ok (.imul, 1) := by decide +kernel
theorem dX1_emit_101 : decode cX1_emit 101 = .ok (.iload 5, 2) := by decide +kernel
theorem dX1_emit_103 : decode cX1_emit 103 = .ok (.iadd, 1) := by decide +kernel
theorem dX1_emit_104 : decode cX1_emit 104 = .ok (.iload 4, 2) := by decide +kernel
theorem dX1_emit_106 : decode cX1_emit 106 = .ok (.iastore, 1) := by decide +kernel
theorem dX1_emit_107 : decode cX1_emit 107 = .ok (.aload_n 0, 1) := by decide +kernel
theorem dX1_emit_108 : decode cX1_emit 108 = .ok (.getfield 7, 3) := by decide +kernel
theorem dX1_emit_111 : decode cX1_emit 111 = .ok (.iload_n 1, 1) := by decide +kernel
theorem dX1_emit_112 : decode cX1_emit 112 = .ok (.iload 5, 2) := by decide +kernel
theorem dX1_emit_114 : decode cX1_emit 114 = .ok (.iconst 1, 1) := by decide +kernel
theorem dX1_emit_115 : decode cX1_emit 115 = .ok (.iadd, 1) := by decide +kernel
theorem dX1_emit_116 : decode cX1_emit 116 = .ok (.iastore, 1) := by decide +kernel
theorem dX1_emit_117 : decode cX1_emit 117 = .ok (.iload 5, 2) := by decide +kernel
theorem dX1_emit_119 : decode cX1_emit 119 = .ok (.ireturn, 1) := by decide +kernel
theorem dX1_start_0 : decode cX1_start 0 = .ok (.aload_n 0, 1) := by decide +kernel
theorem dX1_start_1 : decode cX1_start 1 = .ok (.iload_n 1, 1) := by decide +kernel
theorem dX1_start_2 : decode cX1_start 2 = .ok (.invokevirtual 46, 3) := by decide +kernel
theorem dX1_start_5 : decode cX1_start 5 = .ok (.ifCond .ne 12, 3) := by decide +kernel
theorem dX1_start_8 : decode cX1_start 8 = .ok (.iload_n 2, 1) := by decide +kernel
theorem dX1_start_9 : decode cX1_start 9 = .ok (.ifCond .lt 8, 3) := by decide +kernel
theorem dX1_start_12 : decode cX1_start 12 = .ok (.iload_n 2, 1) := by decide +kernel
theorem dX1_start_13 : decode cX1_start 13 = .ok (.iconst 2, 1) := by decide +kernel
theorem dX1_start_14 : decode cX1_start 14 = .ok (.if_icmp .le 5, 3) := by decide +kernel
theorem dX1_start_17 : decode cX1_start 17 = .ok (.iconst (-1), 1) := by decide +kernel
theorem dX1_start_18 : decode cX1_start 18 = .ok (.ireturn, 1) := by decide +kernel
theorem dX1_start_19 : decode cX1_start 19 = .ok (.aload_n 0, 1) := by decide +kernel
theorem dX1_start_20 : decode cX1_start 20 = .ok (.getfield 31, 3) := by decide +kernel
theorem dX1_start_23 : decode cX1_start 23 = .ok (.iload_n 1, 1) := by decide +kernel
theorem dX1_start_24 : decode cX1_start 24 = .ok (.iconst 0, 1) := by decide +kernel
theorem dX1_start_25 : decode cX1_start 25 = .ok (.iastore, 1) := by decide +kernel
theorem dX1_start_26 : decode cX1_start 26 = .ok (.aload_n 0, 1) := by decide +kernel
theorem dX1_start_27 : decode cX1_start 27 = .ok (.iload_n 1, 1) := by decide +kernel
theorem dX1_start_28 : decode cX1_start 28 = .ok (.iload_n 2, 1) := by decide +kernel
theorem dX1_start_29 : decode cX1_start 29 = .ok (.iload_n 3, 1) := by decide +kernel
theorem dX1_start_30 : decode cX1_start 30 = .ok (.invokevirtual 50, 3) := by decide +kernel
theorem dX1_start_33 : decode cX1_start 33 = .ok (.aload_n 0, 1) := by decide +kernel
theorem dX1_start_34 : decode cX1_start 34 = .ok (.getfield 22, 3) := by decide +kernel
theorem dX1_start_37 : decode cX1_start 37 = .ok (.iload_n 1, 1) := by decide +kernel
theorem dX1_start_38 : decode cX1_start 38 = .ok (.iconst 1, 1) := by decide +kernel
theorem dX1_start_39 : decode cX1_start 39 = .ok (.iastore, 1) := by decide +kernel
theorem dX1_start_40 : decode cX1_start 40 = .ok (.aload_n 0, 1) := by decide +kernel
theorem dX1_start_41 : decode cX1_start 41 = .ok (.getfield 25, 3) := by decide +kernel
theorem dX1_start_44 : decode cX1_start 44 = .ok (.iload_n 1, 1) := by decide +kernel
theorem dX1_start_45 : decode cX1_start 45 = .ok (.iconst 0, 1) := by decide +kernel
theorem dX1_start_46 : decode cX1_start 46 = .ok (.iastore, 1) := by decide +kernel
theorem dX1_start_47 : decode cX1_start 47 = .ok (.aload_n 0, 1) := by decide +kernel
theorem dX1_start_48 : decode cX1_start 48 = .ok (.getfield 28, 3) := by decide +kernel
theorem dX1_start_51 : decode cX1_start 51 = .ok (.iload_n 1, 1) := by decide +kernel
theorem dX1_start_52 : decode cX1_start 52 = .ok (.iconst 0, 1) := by decide +kernel
theorem dX1_start_53 : decode cX1_start 53 = .ok (.iastore, 1) := by decide +kernel
theorem dX1_start_54 : decode cX1_start 54 = .ok (.iconst 0, 1) := by decide +kernel
theorem dX1_start_55 : decode cX1_start 55 = .ok (.ireturn, 1) := by decide +kernel
theorem dX1_badCo_0 : decode cX1_badCo 0 = .ok (.iload_n 1, 1) := by decide +kernel
theorem dX1_badCo_1 : decode cX1_badCo 1 = .ok (.ifCond .lt 8, 3) := by decide +kernel
theorem dX1_badCo_4 : decode cX1_badCo 4 = .ok (.iload_n 1, 1) := by decide +kernel
theorem dX1_badCo_5 : decode cX1_badCo 5 = .ok (.iconst 3, 1) := by decide +kernel
theorem dX1_badCo_6 : decode cX1_badCo 6 = .ok (.if_icmp .le 7, 3) := by decide +kernel
theorem dX1_badCo_9 : decode cX1_badCo 9 = .ok (.iconst 1, 1) := by decide +kernel
theorem dX1_badCo_10 : decode cX1_badCo 10 = .ok (.goto 4, 3) := by decide +kernel
theorem dX1_badCo_13 : decode cX1_badCo 13 = .ok (.iconst 0, 1) := by decide +kernel
theorem dX1_badCo_14 : decode cX1_badCo 14 = .ok (.ireturn, 1) := by decide +kernel
theorem dX1_push_0 : decode cX1_push 0 = .ok (.iload_n 1, 1) := by decide +kernel
theorem dX1_push_1 : decode cX1_push 1 = .ok (.iconst 4, 1) := by decide +kernel
theorem dX1_push_2 : decode cX1_push 2 = .ok (.imul, 1) := by decide +kernel
theorem dX1_push_3 : decode cX1_push 3 = .ok (.aload_n 0, 1) := by decide +kernel
theorem dX1_push_4 : decode cX1_push 4 = .ok (.getfield 31, 3) := by decide +kernel
theorem dX1_push_7 : decode cX1_push 7 = .ok (.iload_n 1, 1) := by decide +kernel
theorem dX1_push_8 : decode cX1_push 8 = .ok (.iaload, 1) := by decide +kernel
theorem dX1_push_9 : decode cX1_push 9 = .ok (.iadd, 1) := by decide +kernel
theorem dX1_push_10 : decode cX1_push 10 = .ok (.istore 4, 2) := by decide +kernel
theorem dX1_push_12 : decode cX1_push 12 = .ok (.aload_n 0, 1) := by decide +kernel
theorem dX1_push_13 : decode cX1_push 13 = .ok (.getfield 34, 3) := by decide +kernel
theorem dX1_push_16 : decode cX1_push 16 = .ok (.iload 4, 2) := by decide +kernel
theorem dX1_push_18 : decode cX1_push 18 = .ok (.iload_n 2, 1) := by decide +kernel
theorem dX1_push_19 : decode cX1_push 19 = .ok (.iastore, 1) := by decide +kernel
theorem dX1_push_20 : decode cX1_push 20 = .ok (.aload_n 0, 1) := by decide +kernel
theorem dX1_push_21 : decode cX1_push 21 = .ok (.getfield 37, 3) := by decide +kernel
theorem dX1_push_24 : decode cX1_push 24 = .ok (.iload 4, 2) := by decide +kernel
theorem dX1_push_26 : decode cX1_push 26 = .ok (.iconst 0, 1) := by decide +kernel
theorem dX1_push_27 : decode cX1_push 27 = .ok (.iastore, 1) := by decide +kernel
theorem dX1_push_28 : decode cX1_push 28 = .ok (.aload_n 0, 1) := by decide +kernel
theorem dX1_push_29 : decode cX1_push 29 = .ok (.getfield 43, 3) := by decide +kernel
theorem dX1_push_32 : decode cX1_push 32 = .ok (.iload 4, 2) := by decide +kernel
theorem dX1_push_34 : decode cX1_push 34 = .ok (.iconst 4, 1) := by decide +kernel
theorem dX1_push_35 : decode cX1_push 35 = .ok (.imul, 1) := by decide +kernel
theorem dX1_push_36 : decode cX1_push 36 = .ok (.iload_n 3, 1) := by decide +kernel
theorem dX1_push_37 : decode cX1_push 37 = .ok (.iastore, 1) := by decide +kernel
theorem dX1_push_38 : decode cX1_push 38 = .ok (.aload_n 0, 1) := by decide +kernel
theorem dX1_push_39 : decode cX1_push 39 = .ok (.getfield 43, 3) := by decide +kernel
theorem dX1_push_42 : decode cX1_push 42 = .ok (.iload 4, 2) := by decide +kernel
theorem dX1_push_44 : decode cX1_push 44 = .ok (.iconst 4, 1) := by decide +kernel
theorem dX1_push_45 : decode cX1_push 45 = .ok (.imul, 1) := by decide +kernel
theorem dX1_push_46 : decode cX1_push 46 = .ok (.iconst 1, 1) := by decide +kernel
theorem dX1_push_47 : decode cX1_push 47 = .ok (.iadd, 1) := by decide +kernel
theorem dX1_push_48 : decode cX1_push 48 = .ok (.iconst 0, 1) := by decide +kernel
theorem dX1_push_49 : decode cX1_push 49 = .ok (.iastore, 1) := by decide +kernel
theorem dX1_push_50 : decode cX1_push 50 = .ok (.aload_n 0, 1) := by decide +kernel
theorem dX1_push_51 : decode cX1_push 51 = .ok (.getfield 43, 3) := by decide +kernel
theorem dX1_push_54 : decode cX1_push 54 = .ok (.iload 4, 2) := by decide +kernel
theorem dX1_push_56 : decode cX1_push 56 = .ok (.iconst 4, 1) := by decide +kernel
theorem dX1_push_57 : decode cX1_push 57 = .ok (.imul, 1) := by decide +kernel
theorem dX1_push_58 : decode cX1_push 58 = .ok (.iconst 2, 1) := by decide +kernel
theorem dX1_push_59 : decode cX1_push 59 = .ok (.iadd, 1) := by decide +kernel
theorem dX1_push_60 : decode cX1_push 60 = .ok (.iconst 0, 1) := by decide +kernel
theorem dX1_push_61 : decode cX1_push 61 = .ok (.iastore, 1) := by decide +kernel
theorem dX1_push_62 : decode cX1_push 62 = .ok (.aload_n 0, 1) := by decide +kernel
theorem dX1_push_63 : decode cX1_push 63 = .ok (.getfield 43, 3) := by decide +kernel
theorem dX1_push_66 : decode cX1_push 66 = .ok (.iload 4, 2) := by decide +kernel
theorem dX1_push_68 : decode cX1_push 68 = .ok (.iconst 4, 1) := by decide +kernel
theorem dX1_push_69 : decode cX1_push 69 = .ok (.imul, 1) := by decide +kernel
theorem dX1_push_70 : decode cX1_push 70 = .ok (.iconst 3, 1) := by decide +kernel
theorem dX1_push_71 : decode cX1_push 71 = .ok (.iadd, 1) := by decide +kernel
theorem dX1_push_72 : decode cX1_push 72 = .ok (.iconst 0, 1) := by decide +kernel
theorem dX1_push_73 : decode cX1_push 73 = .ok (.iastore, 1) := by decide +kernel
theorem dX1_push_74 : decode cX1_push 74 = .ok (.aload_n 0, 1) := by decide +kernel
theorem dX1_push_75 : decode cX1_push 75 = .ok (.getfield 31, 3) := by decide +kernel
theorem dX1_push_78 : decode cX1_push 78 = .ok (.iload_n 1, 1) := by decide +kernel
theorem dX1_push_79 : decode cX1_push 79 = .ok (.aload_n 0, 1) := by decide +kernel
theorem dX1_push_80 : decode cX1_push 80 = .ok (.getfield 31, 3) := by decide +kernel
theorem dX1_push_83 : decode cX1_push 83 = .ok (.iload_n 1, 1) := by decide +kernel
theorem dX1_push_84 : decode cX1_push 84 = .ok (.iaload, 1) := by decide +kernel
theorem dX1_push_85 : decode cX1_push 85 = .ok (.iconst 1, 1) := by decide +kernel
theorem dX1_push_86 : decode cX1_push 86 = .ok (.iadd, 1) := by decide +kernel
theorem dX1_push_87 : decode cX1_push 87 = .ok (.iastore, 1) := by decide +kernel
theorem dX1_push_88 : decode cX1_push 88 = .ok (.return_, 1) := by decide +kernel
theorem dX1_resume_0 : decode cX1_resume 0 = .ok (.aload_n 0, 1) := by decide +kernel
theorem dX1_resume_1 : decode cX1_resume 1 = .ok (.iload_n 1, 1) := by decide +kernel
theorem dX1_resume_2 : decode cX1_resume 2 = .ok (.invokevirtual 46, 3) := by decide +kernel
theorem dX1_resume_5 : decode cX1_resume 5 = .ok (.ifCond .eq 5, 3) := by decide +kernel
theorem dX1_resume_8 : decode cX1_resume 8 = .ok (.iconst (-1), 1) := by decide +kernel
theorem dX1_resume_9 : decode cX1_resume 9 = .ok (.ireturn, 1) := by decide +kernel
theorem dX1_resume_10 : decode cX1_resume 10 = .ok (.aload_n 0, 1) := by decide +kernel
theorem dX1_resume_11 : decode cX1_resume 11 = .ok (.getfield 22, 3) := by decide +kernel
theorem dX1_resume_14 : decode cX1_resume 14 = .ok (.iload_n 1, 1) := by decide +kernel
theorem dX1_resume_15 : decode cX1_resume 15 = .ok (.iaload, 1) := by decide +kernel
theorem dX1_resume_16 : decode cX1_resume 16 = .ok (.iconst 1, 1) := by decide +kernel
theorem dX1_resume_17 : decode cX1_resume 17 = .ok (.if_icmp .eq 16, 3) := by decide +kernel
theorem dX1_resume_20 : decode cX1_resume 20 = .ok (.aload_n 0, 1) := by decide +kernel
theorem dX1_resume_21 : decode cX1_resume 21 = .ok (.getfield 22, 3) := by decide +kernel
theorem dX1_resume_24 : decode cX1_resume 24 = .ok (.iload_n 1, 1) := by decide +kernel
theorem dX1_resume_25 : decode cX1_resume 25 = .ok (.iaload, 1) := by decide +kernel
theorem dX1_resume_26 : decode cX1_resume 26 = .ok (.iconst 2, 1) := by decide +kernel
theorem dX1_resume_27 : decode cX1_resume 27 = .ok (.if_icmp .eq 6, 3) := by decide +kernel
theorem dX1_resume_30 : decode cX1_resume 30 = .ok (.bipush (-4), 2) := by decide +kernel
theorem dX1_resume_32 : decode cX1_resume 32 = .ok (.ireturn, 1) := by decide +kernel
theorem dX1_resume_33 : decode cX1_resume 33 = .ok (.aload_n 0, 1) := by decide +kernel
theorem dX1_resume_34 : decode cX1_resume 34 = .ok (.getfield 22, 3) := by decide +kernel
theorem dX1_resume_37 : decode cX1_resume 37 = .ok (.iload_n 1, 1) := by decide +kernel
theorem dX1_resume_38 : decode cX1_resume 38 = .ok (.iaload, 1) := by decide +kernel
theorem dX1_resume_39 : decode cX1_resume 39 = .ok (.iconst 2, 1) := by decide +kernel
theorem dX1_resume_40 : decode cX1_resume 40 = .ok (.if_icmp .ne 32, 3) := by decide +kernel
theorem dX1_resume_43 : decode cX1_resume 43 = .ok (.iload_n 1, 1) := by decide +kernel
theorem dX1_resume_44 : decode cX1_resume 44 = .ok (.iconst 4, 1) := by decide +kernel
theorem dX1_resume_45 : decode cX1_resume 45 = .ok (.imul, 1) := by decide +kernel
theorem dX1_resume_46 : decode cX1_resume 46 = .ok (.aload_n 0, 1) := by decide +kernel
theorem dX1_resume_47 : decode cX1_resume 47 = .ok (.getfield 31, 3) := by decide +kernel
theorem dX1_resume_50 : decode cX1_resume 50 = .ok (.iload_n 1, 1) := by decide +kernel
theorem dX1_resume_51 : decode cX1_resume 51 = .ok (.iaload, 1) := by decide +kernel
theorem dX1_resume_52 : decode cX1_resume 52 = .ok (.iadd, 1) := by decide +kernel
theorem dX1_resume_53 : decode cX1_resume 53 = .ok (.iconst 1, 1) := by decide +kernel
theorem dX1_resume_54 : decode cX1_resume 54 = .ok (.isub, 1) := by decide +kernel
theorem dX1_resume_55 : decode cX1_resume 55 = .ok (.istore_n 3, 1) := by decide +kernel
theorem dX1_resume_56 : decode cX1_resume 56 = .ok (.aload_n 0, 1) := by decide +kernel
theorem dX1_resume_57 : decode cX1_resume 57 = .ok (.getfield 43, 3) := by decide +kernel
theorem dX1_resume_60 : decode cX1_resume 60 = .ok (.iload_n 3, 1) := by decide +kernel
theorem dX1_resume_61 : decode cX1_resume 61 = .ok (.iconst 4, 1) := by decide +kernel
theorem dX1_resume_62 : decode cX1_resume 62 = .ok (.imul, 1) := by decide +kernel
theorem dX1_resume_63 : decode cX1_resume 63 = .ok (.aload_n 0, 1) := by decide +kernel
theorem dX1_resume_64 : decode cX1_resume 64 = .ok (.getfield 40, 3) := by decide +kernel
theorem dX1_resume_67 : decode cX1_resume 67 = .ok (.iload_n 3, 1) := by decide +kernel
theorem dX1_resume_68 : decode cX1_resume 68 = .ok (.iaload, 1) := by decide +kernel
theorem dX1_resume_69 : decode cX1_resume 69 = .ok (.iadd, 1) := by decide +kernel
theorem dX1_resume_70 : decode cX1_resume 70 = .ok (.iload_n 2, 1) := by decide +kernel
theorem dX1_resume_71 : decode cX1_resume 71 = .ok (.iastore, 1) := by decide +kernel
theorem dX1_resume_72 : decode cX1_resume 72 = .ok (.aload_n 0, 1) := by decide +kernel
theorem dX1_resume_73 : decode cX1_resume 73 = .ok (.getfield 22, 3) := by decide +kernel
theorem dX1_resume_76 : decode cX1_resume 76 = .ok (.iload_n 1, 1) := by decide +kernel
theorem dX1_resume_77 : decode cX1_resume 77 = .ok (.iconst 1, 1) := by decide +kernel
theorem dX1_resume_78 : decode cX1_resume 78 = .ok (.iastore, 1) := by decide +kernel
theorem dX1_resume_79 : decode cX1_resume 79 = .ok (.aload_n 0, 1) := by decide +kernel
theorem dX1_resume_80 : decode cX1_resume 80 = .ok (.getfield 25, 3) := by decide +kernel
theorem dX1_resume_83 : decode cX1_resume 83 = .ok (.iload_n 1, 1) := by decide +kernel
theorem dX1_resume_84 : decode cX1_resume 84 = .ok (.iconst 0, 1) := by decide +kernel
theorem dX1_resume_85 : decode cX1_resume 85 = .ok (.iastore, 1) := by decide +kernel
theorem dX1_resume_86 : decode cX1_resume 86 = .ok (.aload_n 0, 1) := by decide +kernel
theorem dX1_resume_87 : decode cX1_resume 87 = .ok (.getfield 28, 3) := by decide +kernel
theorem dX1_resume_90 : decode cX1_resume 90 = .ok (.iload_n 1, 1) := by decide +kernel
theorem dX1_resume_91 : decode cX1_resume 91 = .ok (.iconst 0, 1) := by decide +kernel
theorem dX1_resume_92 : decode cX1_resume 92 = .ok (.iastore, 1) := by decide +kernel
theorem dX1_resume_93 : decode cX1_resume 93 = .ok (.aload_n 0, 1) := by decide +kernel
theorem dX1_resume_94 : decode cX1_resume 94 = .ok (.iload_n 1, 1) := by decide +kernel
theorem dX1_resume_95 : decode cX1_resume 95 = .ok (.invokevirtual 61, 3) := by decide +kernel
theorem dX1_resume_98 : decode cX1_resume 98 = .ok (.iconst 0, 1) := by decide +kernel
theorem dX1_resume_99 : decode cX1_resume 99 = .ok (.istore_n 3, 1) := by decide +kernel
theorem dX1_resume_100 : decode cX1_resume 100 = .ok (.iload_n 3, 1) := by decide +kernel
theorem dX1_resume_101 : decode cX1_resume 101 = .ok (.bipush 80, 2) := by decide +kernel
theorem dX1_resume_103 : decode cX1_resume 103 = .ok (.if_icmp .ge 43, 3) := by decide +kernel
theorem dX1_resume_106 : decode cX1_resume 106 = .ok (.aload_n 0, 1) := by decide +kernel
theorem dX1_resume_107 : decode cX1_resume 107 = .ok (.getfield 22, 3) := by decide +kernel
theorem dX1_resume_110 : decode cX1_resume 110 = .ok (.iload_n 1, 1) := by decide +kernel
theorem dX1_resume_111 : decode cX1_resume 111 = .ok (.iaload, 1) := by decide +kernel
theorem dX1_resume_112 : decode cX1_resume 112 = .ok (.iconst 1, 1) := by decide +kernel
theorem dX1_resume_113 : decode cX1_resume 113 = .ok (.if_icmp .ne 27, 3) := by decide +kernel
theorem dX1_resume_116 : decode cX1_resume 116 = .ok (.aload_n 0, 1) := by decide +kernel
theorem dX1_resume_117 : decode cX1_resume 117 = .ok (.iload_n 1, 1) := by decide +kernel
theorem dX1_resume_118 : decode cX1_resume 118 = .ok (.invokevirtual 65, 3) := by decide +kernel
theorem dX1_resume_121 : decode cX1_resume 121 = .ok (.aload_n 0, 1) := by decide +kernel
theorem dX1_resume_122 : decode cX1_resume 122 = .ok (.iload_n 1, 1) := by decide +kernel
theorem dX1_resume_123 : decode cX1_resume 123 = .ok (.invokevirtual 61, 3) := by decide +kernel
theorem dX1_resume_126 : decode cX1_resume 126 = .ok (.aload_n 0, 1) := by decide +kernel
theorem dX1_resume_127 : decode cX1_resume 127 = .ok (.getfield 28, 3) := by decide +kernel
theorem dX1_resume_130 : decode cX1_resume 130 = .ok (.iload_n 1, 1) := by decide +kernel
theorem dX1_resume_131 : decode cX1_resume 131 = .ok (.aload_n 0, 1) := by decide +kernel
theorem dX1_resume_132 : decode cX1_resume 132 = .ok (.getfield 28, 3) := by decide +kernel
theorem dX1_resume_135 : decode cX1_resume 135 = .ok (.iload_n 1, 1) := by decide +kernel
theorem dX1_resume_136 : decode cX1_resume 136 = .ok (.iaload, 1) := by decide +kernel
theorem dX1_resume_137 : decode cX1_resume 137 = .ok (.iconst 1, 1) := by decide +kernel
theorem dX1_resume_138 : decode cX1_resume 138 = .ok (.iadd, 1) := by decide +kernel
theorem dX1_resume_139 : decode cX1_resume 139 = .ok (.iastore, 1) := by decide +kernel
theorem dX1_resume_140 : decode cX1_resume 140 = .ok (.iinc 3 1, 3) := by decide +kernel
theorem dX1_resume_143 : decode cX1_resume 143 = .ok (.goto (-43), 3) := by decide +kernel
theorem dX1_resume_146 : decode cX1_resume 146 = .ok (.aload_n 0, 1) := by decide +kernel
theorem dX1_resume_147 : decode cX1_resume 147 = .ok (.getfield 22, 3) := by decide +kernel
theorem dX1_resume_150 : decode cX1_resume 150 = .ok (.iload_n 1, 1) := by decide +kernel
theorem dX1_resume_151 : decode cX1_resume 151 = .ok (.iaload, 1) := by decide +kernel
theorem dX1_resume_152 : decode cX1_resume 152 = .ok (.iconst 1, 1) := by decide +kernel
theorem dX1_resume_153 : decode cX1_resume 153 = .ok (.if_icmp .ne 10, 3) := by decide +kernel
theorem dX1_resume_156 : decode cX1_resume 156 = .ok (.aload_n 0, 1) := by decide +kernel
theorem dX1_resume_157 : decode cX1_resume 157 = .ok (.iload_n 1, 1) := by decide +kernel
theorem dX1_resume_158 : decode cX1_resume 158 = .ok (.iconst 4, 1) := by decide +kernel
theorem dX1_resume_159 : decode cX1_resume 159 = .ok (.iconst 0, 1) := by decide +kernel
theorem dX1_resume_160 : decode cX1_resume 160 = .ok (.invokevirtual 54, 3) := by decide +kernel
theorem dX1_resume_163 : decode cX1_resume 163 = .ok (.aload_n 0, 1) := by decide +kernel
theorem dX1_resume_164 : decode cX1_resume 164 = .ok (.getfield 22, 3) := by decide +kernel
theorem dX1_resume_167 : decode cX1_resume 167 = .ok (.iload_n 1, 1) := by decide +kernel
theorem dX1_resume_168 : decode cX1_resume 168 = .ok (.iaload, 1) := by decide +kernel
theorem dX1_resume_169 : decode cX1_resume 169 = .ok (.ireturn, 1) := by decide +kernel
theorem dX1_fallOff_0 : decode cX1_fallOff 0 = .ok (.iconst 0, 1) := by decide +kernel
theorem dX1_fallOff_1 : decode cX1_fallOff 1 = .ok (.istore_n 2, 1) := by decide +kernel
theorem dX1_fallOff_2 : decode cX1_fallOff 2 = .ok (.iload_n 2, 1) := by decide +kernel
theorem dX1_fallOff_3 : decode cX1_fallOff 3 = .ok (.iconst 4, 1) := by decide +kernel
theorem dX1_fallOff_4 : decode cX1_fallOff 4 = .ok (.if_icmp .ge 76, 3) := by decide +kernel
theorem dX1_fallOff_7 : decode cX1_fallOff 7 = .ok (.aload_n 0, 1) := by decide +kernel
theorem dX1_fallOff_8 : decode cX1_fallOff 8 = .ok (.getfield 22, 3) := by decide +kernel
theorem dX1_fallOff_11 : decode cX1_fallOff 11 = .ok (.iload_n 1, 1) := by decide +kernel
theorem dX1_fallOff_12 : decode cX1_fallOff 12 = .ok (.iaload, 1) := by decide +kernel
theorem dX1_fallOff_13 : decode cX1_fallOff 13 = .ok (.iconst 1, 1) := by decide +kernel
theorem dX1_fallOff_14 : decode cX1_fallOff 14 = .ok (.if_icmp .ne 60, 3) := by decide +kernel
theorem dX1_fallOff_17 : decode cX1_fallOff 17 = .ok (.aload_n 0, 1) := by decide +kernel
theorem dX1_fallOff_18 : decode cX1_fallOff 18 = .ok (.getfield 31, 3) := by decide +kernel
theorem dX1_fallOff_21 : decode cX1_fallOff 21 = .ok (.iload_n 1, 1) := by decide +kernel
theorem dX1_fallOff_22 : decode cX1_fallOff 22 = .ok (.iaload, 1) := by decide +kernel
theorem dX1_fallOff_23 : decode cX1_fallOff 23 = .ok (.ifCond .le 51, 3) := by decide +kernel
theorem dX1_fallOff_26 : decode cX1_fallOff 26 = .ok (.iload_n 1, 1) := by decide +kernel
theorem dX1_fallOff_27 : decode cX1_fallOff 27 = .ok (.iconst 4, 1) := by decide +kernel
theorem dX1_fallOff_28 : decode cX1_fallOff 28 = .ok (.imul, 1) := by decide +kernel
theorem dX1_fallOff_29 : decode cX1_fallOff 29 = .ok (.aload_n 0, 1) := by decide +kernel
theorem dX1_fallOff_30 : decode cX1_fallOff 30 = .ok (.getfield 31, 3) := by decide +kernel
theorem dX1_fallOff_33 : decode cX1_fallOff 33 = .ok (.iload_n 1, 1) := by decide +kernel
theorem dX1_fallOff_34 : decode cX1_fallOff 34 = .ok (.iaload, 1) := by decide +kernel
theorem dX1_fallOff_35 : decode cX1_fallOff 35 = .ok (.iadd, 1) := by decide +kernel
theorem dX1_fallOff_36 : decode cX1_fallOff 36 = .ok (.iconst 1, 1) := by decide +kernel
theorem dX1_fallOff_37 : decode cX1_fallOff 37 = .ok (.isub, 1) := by decide +kernel
theorem dX1_fallOff_38 : decode cX1_fallOff 38 = .ok (.istore_n 3, 1) := by decide +kernel
theorem dX1_fallOff_39 : decode cX1_fallOff 39 = .ok (.aload_n 0, 1) := by decide +kernel
theorem dX1_fallOff_40 : decode cX1_fallOff 40 = .ok (.getfield 37, 3) := by decide +kernel
theorem dX1_fallOff_43 : decode cX1_fallOff 43 = .ok (.iload_n 3, 1) := by decide +kernel
theorem dX1_fallOff_44 : decode cX1_fallOff 44 = .ok (.iaload, 1) := by decide +kernel
theorem dX1_fallOff_45 : decode cX1_fallOff 45 = .ok (.ifCond .lt 23, 3) := by decide +kernel
theorem dX1_fallOff_48 : decode cX1_fallOff 48 = .ok (.aload_n 0, 1) := by decide +kernel
theorem dX1_fallOff_49 : decode cX1_fallOff 49 = .ok (.getfield 37, 3) := by decide +kernel
theorem dX1_fallOff_52 : decode cX1_fallOff 52 = .ok (.iload_n 3, 1) := by decide +kernel
theorem dX1_fallOff_53 : decode cX1_fallOff 53 = .ok (.iaload, 1) := by decide +kernel
theorem dX1_fallOff_54 : decode cX1_fallOff 54 = .ok (.aload_n 0, 1) := by decide +kernel
theorem dX1_fallOff_55 : decode cX1_fallOff 55 = .ok (.getfield 7, 3) := by decide +kernel
theorem dX1_fallOff_58 : decode cX1_fallOff 58 = .ok (.aload_n 0, 1) := by decide +kernel
theorem dX1_fallOff_59 : decode cX1_fallOff 59 = .ok (.getfield 34, 3) := by decide +kernel
theorem dX1_fallOff_62 : decode cX1_fallOff 62 = .ok (.iload_n 3, 1) := by decide +kernel
theorem dX1_fallOff_63 : decode cX1_fallOff 63 = .ok (.iaload, 1) := by decide +kernel
theorem dX1_fallOff_64 : decode cX1_fallOff 64 = .ok (.iaload, 1) := by decide +kernel
theorem dX1_fallOff_65 : decode cX1_fallOff 65 = .ok (.if_icmp .lt 9, 3) := by decide +kernel
theorem dX1_fallOff_68 : decode cX1_fallOff 68 = .ok (.aload_n 0, 1) := by decide +kernel
theorem dX1_fallOff_69 : decode cX1_fallOff 69 = .ok (.iload_n 1, 1) := by decide +kernel
theorem dX1_fallOff_70 : decode cX1_fallOff 70 = .ok (.iconst 0, 1) := by decide +kernel
theorem dX1_fallOff_71 : decode cX1_fallOff 71 = .ok (.invokevirtual 57, 3) := by decide +kernel
theorem dX1_fallOff_74 : decode cX1_fallOff 74 = .ok (.iinc 2 1, 3) := by decide +kernel
theorem dX1_fallOff_77 : decode cX1_fallOff 77 = .ok (.goto (-75), 3) := by decide +kernel
theorem dX1_fallOff_80 : decode cX1_fallOff 80 = .ok (.return_, 1) := by decide +kernel
theorem dX1_back_0 : decode cX1_back 0 = .ok (.aload_n 0, 1) := by decide +kernel
theorem dX1_back_1 : decode cX1_back 1 = .ok (.getfield 31, 3) := by decide +kernel
theorem dX1_back_4 : decode cX1_back 4 = .ok (.iload_n 1, 1) := by decide +kernel
theorem dX1_back_5 : decode cX1_back 5 = .ok (.aload_n 0, 1) := by decide +kernel
theorem dX1_back_6 : decode cX1_back 6 = .ok (.getfield 31, 3) := by decide +kernel
theorem dX1_back_9 : decode cX1_back 9 = .ok (.iload_n 1, 1) := by decide +kernel
theorem dX1_back_10 : decode cX1_back 10 = .ok (.iaload, 1) := by decide +kernel
theorem dX1_back_11 : decode cX1_back 11 = .ok (.iconst 1, 1) := by decide +kernel
theorem dX1_back_12 : decode cX1_back 12 = .ok (.isub, 1) := by decide +kernel
theorem dX1_back_13 : decode cX1_back 13 = .ok (.iastore, 1) := by decide +kernel
theorem dX1_back_14 : decode cX1_back 14 = .ok (.aload_n 0, 1) := by decide +kernel
theorem dX1_back_15 : decode cX1_back 15 = .ok (.getfield 31, 3) := by decide +kernel
theorem dX1_back_18 : decode cX1_back 18 = .ok (.iload_n 1, 1) := by decide +kernel
theorem dX1_back_19 : decode cX1_back 19 = .ok (.iaload, 1) := by decide +kernel
theorem dX1_back_20 : decode cX1_back 20 = .ok (.ifCond .ne 13, 3) := by decide +kernel
theorem dX1_back_23 : decode cX1_back 23 = .ok (.aload_n 0, 1) := by decide +kernel
theorem dX1_back_24 : decode cX1_back 24 = .ok (.iload_n 1, 1) := by decide +kernel
theorem dX1_back_25 : decode cX1_back 25 = .ok (.iconst 3, 1) := by decide +kernel
theorem dX1_back_26 : decode cX1_back 26 = .ok (.iload_n 2, 1) := by decide +kernel
theorem dX1_back_27 : decode cX1_back 27 = .ok (.invokevirtual 54, 3) := by decide +kernel
theorem dX1_back_30 : decode cX1_back 30 = .ok (.goto 32, 3) := by decide +kernel
theorem dX1_back_33 : decode cX1_back 33 = .ok (.iload_n 1, 1) := by decide +kernel
end
section
set_option maxRecDepth 100000
theorem dX1_back_34 : decode cX1_back 34 = .ok (.iconst 4, 1) := by decide +kernel
theorem dX1_back_35 : decode cX1_back 35 = .ok (.imul, 1) := by decide +kernel
theorem dX1_back_36 : decode cX1_back 36 = .ok (.aload_n 0, 1) := by decide +kernel
theorem dX1_back_37 : decode cX1_back 37 = .ok (.getfield 31, 3) := by decide +kernel
theorem dX1_back_40 : decode cX1_back 40 = .ok (.iload_n 1, 1) := by decide +kernel
theorem dX1_back_41 : decode cX1_back 41 = .ok (.iaload, 1) := by decide +kernel
theorem dX1_back_42 : decode cX1_back 42 = .ok (.iadd, 1) := by decide +kernel
theorem dX1_back_43 : decode cX1_back 43 = .ok (.iconst 1, 1) := by decide +kernel
theorem dX1_back_44 : decode cX1_back 44 = .ok (.isub, 1) := by decide +kernel
theorem dX1_back_45 : decode cX1_back 45 = .ok (.istore_n 3, 1) := by decide +kernel
theorem dX1_back_46 : decode cX1_back 46 = .ok (.aload_n 0, 1) := by decide +kernel
theorem dX1_back_47 : decode cX1_back 47 = .ok (.getfield 43, 3) := by decide +kernel
theorem dX1_back_50 : decode cX1_back 50 = .ok (.iload_n 3, 1) := by decide +kernel
theorem dX1_back_51 : decode cX1_back 51 = .ok (.iconst 4, 1) := by decide +kernel
theorem dX1_back_52 : decode cX1_back 52 = .ok (.imul, 1) := by decide +kernel
theorem dX1_back_53 : decode cX1_back 53 = .ok (.aload_n 0, 1) := by decide +kernel
theorem dX1_back_54 : decode cX1_back 54 = .ok (.getfield 40, 3) := by decide +kernel
theorem dX1_back_57 : decode cX1_back 57 = .ok (.iload_n 3, 1) := by decide +kernel
theorem dX1_back_58 : decode cX1_back 58 = .ok (.iaload, 1) := by decide +kernel
theorem dX1_back_59 : decode cX1_back 59 = .ok (.iadd, 1) := by decide +kernel
theorem dX1_back_60 : decode cX1_back 60 = .ok (.iload_n 2, 1) := by decide +kernel
theorem dX1_back_61 : decode cX1_back 61 = .ok (.iastore, 1) := by decide +kernel
theorem dX1_back_62 : decode cX1_back 62 = .ok (.return_, 1) := by decide +kernel
theorem dX1_end_0 : decode cX1_end 0 = .ok (.aload_n 0, 1) := by decide +kernel
theorem dX1_end_1 : decode cX1_end 1 = .ok (.getfield 22, 3) := by decide +kernel
theorem dX1_end_4 : decode cX1_end 4 = .ok (.iload_n 1, 1) := by decide +kernel
theorem dX1_end_5 : decode cX1_end 5 = .ok (.iload_n 2, 1) := by decide +kernel
theorem dX1_end_6 : decode cX1_end 6 = .ok (.iastore, 1) := by decide +kernel
theorem dX1_end_7 : decode cX1_end 7 = .ok (.aload_n 0, 1) := by decide +kernel
theorem dX1_end_8 : decode cX1_end 8 = .ok (.getfield 25, 3) := by decide +kernel
theorem dX1_end_11 : decode cX1_end 11 = .ok (.iload_n 1, 1) := by decide +kernel
theorem dX1_end_12 : decode cX1_end 12 = .ok (.iload_n 3, 1) := by decide +kernel
theorem dX1_end_13 : decode cX1_end 13 = .ok (.iastore, 1) := by decide +kernel
theorem dX1_end_14 : decode cX1_end 14 = .ok (.aload_n 0, 1) := by decide +kernel
theorem dX1_end_15 : decode cX1_end 15 = .ok (.getfield 31, 3) := by decide +kernel
theorem dX1_end_18 : decode cX1_end 18 = .ok (.iload_n 1, 1) := by decide +kernel
theorem dX1_end_19 : decode cX1_end 19 = .ok (.iconst 0, 1) := by decide +kernel
theorem dX1_end_20 : decode cX1_end 20 = .ok (.iastore, 1) := by decide +kernel
theorem dX1_end_21 : decode cX1_end 21 = .ok (.return_, 1) := by decide +kernel
theorem dX1_carryOut_0 : decode cX1_carryOut 0 = .ok (.iload_n 1, 1) := by decide +kernel
theorem dX1_carryOut_1 : decode cX1_carryOut 1 = .ok (.iconst 4, 1) := by decide +kernel
theorem dX1_carryOut_2 : decode cX1_carryOut 2 = .ok (.imul, 1) := by decide +kernel
theorem dX1_carryOut_3 : decode cX1_carryOut 3 = .ok (.aload_n 0, 1) := by decide +kernel
theorem dX1_carryOut_4 : decode cX1_carryOut 4 = .ok (.getfield 31, 3) := by decide +kernel
theorem dX1_carryOut_7 : decode cX1_carryOut 7 = .ok (.iload_n 1, 1) := by decide +kernel
theorem dX1_carryOut_8 : decode cX1_carryOut 8 = .ok (.iaload, 1) := by decide +kernel
theorem dX1_carryOut_9 : decode cX1_carryOut 9 = .ok (.iadd, 1) := by decide +kernel
theorem dX1_carryOut_10 : decode cX1_carryOut 10 = .ok (.iconst 1, 1) := by decide +kernel
theorem dX1_carryOut_11 : decode cX1_carryOut 11 = .ok (.isub, 1) := by decide +kernel
theorem dX1_carryOut_12 : decode cX1_carryOut 12 = .ok (.istore_n 2, 1) := by decide +kernel
theorem dX1_carryOut_13 : decode cX1_carryOut 13 = .ok (.aload_n 0, 1) := by decide +kernel
theorem dX1_carryOut_14 : decode cX1_carryOut 14 = .ok (.getfield 34, 3) := by decide +kernel
theorem dX1_carryOut_17 : decode cX1_carryOut 17 = .ok (.iload_n 2, 1) := by decide +kernel
theorem dX1_carryOut_18 : decode cX1_carryOut 18 = .ok (.iaload, 1) := by decide +kernel
theorem dX1_carryOut_19 : decode cX1_carryOut 19 = .ok (.bipush 8, 2) := by decide +kernel
theorem dX1_carryOut_21 : decode cX1_carryOut 21 = .ok (.imul, 1) := by decide +kernel
theorem dX1_carryOut_22 : decode cX1_carryOut 22 = .ok (.aload_n 0, 1) := by decide +kernel
theorem dX1_carryOut_23 : decode cX1_carryOut 23 = .ok (.getfield 37, 3) := by decide +kernel
theorem dX1_carryOut_26 : decode cX1_carryOut 26 = .ok (.iload_n 2, 1) := by decide +kernel
theorem dX1_carryOut_27 : decode cX1_carryOut 27 = .ok (.iaload, 1) := by decide +kernel
theorem dX1_carryOut_28 : decode cX1_carryOut 28 = .ok (.iadd, 1) := by decide +kernel
theorem dX1_carryOut_29 : decode cX1_carryOut 29 = .ok (.istore_n 3, 1) := by decide +kernel
theorem dX1_carryOut_30 : decode cX1_carryOut 30 = .ok (.aload_n 0, 1) := by decide +kernel
theorem dX1_carryOut_31 : decode cX1_carryOut 31 = .ok (.getfield 13, 3) := by decide +kernel
theorem dX1_carryOut_34 : decode cX1_carryOut 34 = .ok (.iload_n 3, 1) := by decide +kernel
theorem dX1_carryOut_35 : decode cX1_carryOut 35 = .ok (.iaload, 1) := by decide +kernel
theorem dX1_carryOut_36 : decode cX1_carryOut 36 = .ok (.istore 4, 2) := by decide +kernel
theorem dX1_carryOut_38 : decode cX1_carryOut 38 = .ok (.aload_n 0, 1) := by decide +kernel
theorem dX1_carryOut_39 : decode cX1_carryOut 39 = .ok (.getfield 19, 3) := by decide +kernel
theorem dX1_carryOut_42 : decode cX1_carryOut 42 = .ok (.iload_n 3, 1) := by decide +kernel
theorem dX1_carryOut_43 : decode cX1_carryOut 43 = .ok (.iaload, 1) := by decide +kernel
theorem dX1_carryOut_44 : decode cX1_carryOut 44 = .ok (.istore 5, 2) := by decide +kernel
theorem dX1_carryOut_46 : decode cX1_carryOut 46 = .ok (.iload_n 2, 1) := by decide +kernel
theorem dX1_carryOut_47 : decode cX1_carryOut 47 = .ok (.iconst 4, 1) := by decide +kernel
theorem dX1_carryOut_48 : decode cX1_carryOut 48 = .ok (.imul, 1) := by decide +kernel
theorem dX1_carryOut_49 : decode cX1_carryOut 49 = .ok (.aload_n 0, 1) := by decide +kernel
theorem dX1_carryOut_50 : decode cX1_carryOut 50 = .ok (.getfield 16, 3) := by decide +kernel
theorem dX1_carryOut_53 : decode cX1_carryOut 53 = .ok (.iload_n 3, 1) := by decide +kernel
theorem dX1_carryOut_54 : decode cX1_carryOut 54 = .ok (.iaload, 1) := by decide +kernel
theorem dX1_carryOut_55 : decode cX1_carryOut 55 = .ok (.iconst 3, 1) := by decide +kernel
theorem dX1_carryOut_56 : decode cX1_carryOut 56 = .ok (.iand, 1) := by decide +kernel
theorem dX1_carryOut_57 : decode cX1_carryOut 57 = .ok (.iadd, 1) := by decide +kernel
theorem dX1_carryOut_58 : decode cX1_carryOut 58 = .ok (.istore 6, 2) := by decide +kernel
theorem dX1_carryOut_60 : decode cX1_carryOut 60 = .ok (.iload_n 2, 1) := by decide +kernel
theorem dX1_carryOut_61 : decode cX1_carryOut 61 = .ok (.iconst 4, 1) := by decide +kernel
theorem dX1_carryOut_62 : decode cX1_carryOut 62 = .ok (.imul, 1) := by decide +kernel
theorem dX1_carryOut_63 : decode cX1_carryOut 63 = .ok (.aload_n 0, 1) := by decide +kernel
theorem dX1_carryOut_64 : decode cX1_carryOut 64 = .ok (.getfield 16, 3) := by decide +kernel
theorem dX1_carryOut_67 : decode cX1_carryOut 67 = .ok (.iload_n 3, 1) := by decide +kernel
theorem dX1_carryOut_68 : decode cX1_carryOut 68 = .ok (.iaload, 1) := by decide +kernel
theorem dX1_carryOut_69 : decode cX1_carryOut 69 = .ok (.iconst 2, 1) := by decide +kernel
theorem dX1_carryOut_70 : decode cX1_carryOut 70 = .ok (.ishr, 1) := by decide +kernel
theorem dX1_carryOut_71 : decode cX1_carryOut 71 = .ok (.iconst 3, 1) := by decide +kernel
theorem dX1_carryOut_72 : decode cX1_carryOut 72 = .ok (.iand, 1) := by decide +kernel
theorem dX1_carryOut_73 : decode cX1_carryOut 73 = .ok (.iadd, 1) := by decide +kernel
theorem dX1_carryOut_74 : decode cX1_carryOut 74 = .ok (.istore 7, 2) := by decide +kernel
theorem dX1_carryOut_76 : decode cX1_carryOut 76 = .ok (.aload_n 0, 1) := by decide +kernel
theorem dX1_carryOut_77 : decode cX1_carryOut 77 = .ok (.getfield 37, 3) := by decide +kernel
theorem dX1_carryOut_80 : decode cX1_carryOut 80 = .ok (.iload_n 2, 1) := by decide +kernel
theorem dX1_carryOut_81 : decode cX1_carryOut 81 = .ok (.aload_n 0, 1) := by decide +kernel
theorem dX1_carryOut_82 : decode cX1_carryOut 82 = .ok (.getfield 37, 3) := by decide +kernel
theorem dX1_carryOut_85 : decode cX1_carryOut 85 = .ok (.iload_n 2, 1) := by decide +kernel
theorem dX1_carryOut_86 : decode cX1_carryOut 86 = .ok (.iaload, 1) := by decide +kernel
theorem dX1_carryOut_87 : decode cX1_carryOut 87 = .ok (.iconst 1, 1) := by decide +kernel
theorem dX1_carryOut_88 : decode cX1_carryOut 88 = .ok (.iadd, 1) := by decide +kernel
theorem dX1_carryOut_89 : decode cX1_carryOut 89 = .ok (.iastore, 1) := by decide +kernel
theorem dX1_carryOut_90 : decode cX1_carryOut 90 = .ok (.iload 4, 2) := by decide +kernel
theorem dX1_carryOut_92 : decode cX1_carryOut 92 = .ok (.ifCond .ne 15, 3) := by decide +kernel
theorem dX1_carryOut_95 : decode cX1_carryOut 95 = .ok (.aload_n 0, 1) := by decide +kernel
theorem dX1_carryOut_96 : decode cX1_carryOut 96 = .ok (.getfield 43, 3) := by decide +kernel
theorem dX1_carryOut_99 : decode cX1_carryOut 99 = .ok (.iload 6, 2) := by decide +kernel
theorem dX1_carryOut_101 : decode cX1_carryOut 101 = .ok (.iload 5, 2) := by decide +kernel
theorem dX1_carryOut_103 : decode cX1_carryOut 103 = .ok (.iastore, 1) := by decide +kernel
theorem dX1_carryOut_104 : decode cX1_carryOut 104 = .ok (.goto 241, 3) := by decide +kernel
theorem dX1_carryOut_107 : decode cX1_carryOut 107 = .ok (.iload 4, 2) := by decide +kernel
theorem dX1_carryOut_109 : decode cX1_carryOut 109 = .ok (.iconst 1, 1) := by decide +kernel
theorem dX1_carryOut_110 : decode cX1_carryOut 110 = .ok (.if_icmp .ne 28, 3) := by decide +kernel
theorem dX1_carryOut_113 : decode cX1_carryOut 113 = .ok (.aload_n 0, 1) := by decide +kernel
theorem dX1_carryOut_114 : decode cX1_carryOut 114 = .ok (.getfield 43, 3) := by decide +kernel
theorem dX1_carryOut_117 : decode cX1_carryOut 117 = .ok (.iload 6, 2) := by decide +kernel
theorem dX1_carryOut_119 : decode cX1_carryOut 119 = .ok (.aload_n 0, 1) := by decide +kernel
theorem dX1_carryOut_120 : decode cX1_carryOut 120 = .ok (.getfield 43, 3) := by decide +kernel
theorem dX1_carryOut_123 : decode cX1_carryOut 123 = .ok (.iload 6, 2) := by decide +kernel
theorem dX1_carryOut_125 : decode cX1_carryOut 125 = .ok (.iaload, 1) := by decide +kernel
theorem dX1_carryOut_126 : decode cX1_carryOut 126 = .ok (.aload_n 0, 1) := by decide +kernel
theorem dX1_carryOut_127 : decode cX1_carryOut 127 = .ok (.getfield 43, 3) := by decide +kernel
theorem dX1_carryOut_130 : decode cX1_carryOut 130 = .ok (.iload 7, 2) := by decide +kernel
theorem dX1_carryOut_132 : decode cX1_carryOut 132 = .ok (.iaload, 1) := by decide +kernel
theorem dX1_carryOut_133 : decode cX1_carryOut 133 = .ok (.iadd, 1) := by decide +kernel
theorem dX1_carryOut_134 : decode cX1_carryOut 134 = .ok (.iastore, 1) := by decide +kernel
theorem dX1_carryOut_135 : decode cX1_carryOut 135 = .ok (.goto 210, 3) := by decide +kernel
theorem dX1_carryOut_138 : decode cX1_carryOut 138 = .ok (.iload 4, 2) := by decide +kernel
theorem dX1_carryOut_140 : decode cX1_carryOut 140 = .ok (.iconst 2, 1) := by decide +kernel
theorem dX1_carryOut_141 : decode cX1_carryOut 141 = .ok (.if_icmp .ne 28, 3) := by decide +kernel
theorem dX1_carryOut_144 : decode cX1_carryOut 144 = .ok (.aload_n 0, 1) := by decide +kernel
theorem dX1_carryOut_145 : decode cX1_carryOut 145 = .ok (.getfield 43, 3) := by decide +kernel
theorem dX1_carryOut_148 : decode cX1_carryOut 148 = .ok (.iload 6, 2) := by decide +kernel
theorem dX1_carryOut_150 : decode cX1_carryOut 150 = .ok (.aload_n 0, 1) := by decide +kernel
theorem dX1_carryOut_151 : decode cX1_carryOut 151 = .ok (.getfield 43, 3) := by decide +kernel
theorem dX1_carryOut_154 : decode cX1_carryOut 154 = .ok (.iload 6, 2) := by decide +kernel
theorem dX1_carryOut_156 : decode cX1_carryOut 156 = .ok (.iaload, 1) := by decide +kernel
theorem dX1_carryOut_157 : decode cX1_carryOut 157 = .ok (.aload_n 0, 1) := by decide +kernel
theorem dX1_carryOut_158 : decode cX1_carryOut 158 = .ok (.getfield 43, 3) := by decide +kernel
theorem dX1_carryOut_161 : decode cX1_carryOut 161 = .ok (.iload 7, 2) := by decide +kernel
theorem dX1_carryOut_163 : decode cX1_carryOut 163 = .ok (.iaload, 1) := by decide +kernel
theorem dX1_carryOut_164 : decode cX1_carryOut 164 = .ok (.isub, 1) := by decide +kernel
theorem dX1_carryOut_165 : decode cX1_carryOut 165 = .ok (.iastore, 1) := by decide +kernel
theorem dX1_carryOut_166 : decode cX1_carryOut 166 = .ok (.goto 179, 3) := by decide +kernel
theorem dX1_carryOut_169 : decode cX1_carryOut 169 = .ok (.iload 4, 2) := by decide +kernel
theorem dX1_carryOut_171 : decode cX1_carryOut 171 = .ok (.iconst 3, 1) := by decide +kernel
theorem dX1_carryOut_172 : decode cX1_carryOut 172 = .ok (.if_icmp .eq 19, 3) := by decide +kernel
theorem dX1_carryOut_175 : decode cX1_carryOut 175 = .ok (.iload 4, 2) := by decide +kernel
theorem dX1_carryOut_177 : decode cX1_carryOut 177 = .ok (.iconst 4, 1) := by decide +kernel
theorem dX1_carryOut_178 : decode cX1_carryOut 178 = .ok (.if_icmp .ne 24, 3) := by decide +kernel
theorem dX1_carryOut_181 : decode cX1_carryOut 181 = .ok (.aload_n 0, 1) := by decide +kernel
theorem dX1_carryOut_182 : decode cX1_carryOut 182 = .ok (.getfield 43, 3) := by decide +kernel
theorem dX1_carryOut_185 : decode cX1_carryOut 185 = .ok (.iload 6, 2) := by decide +kernel
theorem dX1_carryOut_187 : decode cX1_carryOut 187 = .ok (.iaload, 1) := by decide +kernel
theorem dX1_carryOut_188 : decode cX1_carryOut 188 = .ok (.ifCond .le 14, 3) := by decide +kernel
theorem dX1_carryOut_191 : decode cX1_carryOut 191 = .ok (.aload_n 0, 1) := by decide +kernel
theorem dX1_carryOut_192 : decode cX1_carryOut 192 = .ok (.getfield 37, 3) := by decide +kernel
theorem dX1_carryOut_195 : decode cX1_carryOut 195 = .ok (.iload_n 2, 1) := by decide +kernel
theorem dX1_carryOut_196 : decode cX1_carryOut 196 = .ok (.iload 5, 2) := by decide +kernel
theorem dX1_carryOut_198 : decode cX1_carryOut 198 = .ok (.iastore, 1) := by decide +kernel
theorem dX1_carryOut_199 : decode cX1_carryOut 199 = .ok (.goto 146, 3) := by decide +kernel
theorem dX1_carryOut_202 : decode cX1_carryOut 202 = .ok (.iload 4, 2) := by decide +kernel
theorem dX1_carryOut_204 : decode cX1_carryOut 204 = .ok (.iconst 5, 1) := by decide +kernel
theorem dX1_carryOut_205 : decode cX1_carryOut 205 = .ok (.if_icmp .ne 42, 3) := by decide +kernel
theorem dX1_carryOut_208 : decode cX1_carryOut 208 = .ok (.aload_n 0, 1) := by decide +kernel
theorem dX1_carryOut_209 : decode cX1_carryOut 209 = .ok (.getfield 40, 3) := by decide +kernel
theorem dX1_carryOut_212 : decode cX1_carryOut 212 = .ok (.iload_n 2, 1) := by decide +kernel
theorem dX1_carryOut_213 : decode cX1_carryOut 213 = .ok (.aload_n 0, 1) := by decide +kernel
theorem dX1_carryOut_214 : decode cX1_carryOut 214 = .ok (.getfield 16, 3) := by decide +kernel
theorem dX1_carryOut_217 : decode cX1_carryOut 217 = .ok (.iload_n 3, 1) := by decide +kernel
theorem dX1_carryOut_218 : decode cX1_carryOut 218 = .ok (.iaload, 1) := by decide +kernel
theorem dX1_carryOut_219 : decode cX1_carryOut 219 = .ok (.iconst 2, 1) := by decide +kernel
theorem dX1_carryOut_220 : decode cX1_carryOut 220 = .ok (.ishr, 1) := by decide +kernel
theorem dX1_carryOut_221 : decode cX1_carryOut 221 = .ok (.iconst 3, 1) := by decide +kernel
theorem dX1_carryOut_222 : decode cX1_carryOut 222 = .ok (.iand, 1) := by decide +kernel
theorem dX1_carryOut_223 : decode cX1_carryOut 223 = .ok (.iastore, 1) := by decide +kernel
theorem dX1_carryOut_224 : decode cX1_carryOut 224 = .ok (.aload_n 0, 1) := by decide +kernel
theorem dX1_carryOut_225 : decode cX1_carryOut 225 = .ok (.getfield 22, 3) := by decide +kernel
theorem dX1_carryOut_228 : decode cX1_carryOut 228 = .ok (.iload_n 1, 1) := by decide +kernel
theorem dX1_carryOut_229 : decode cX1_carryOut 229 = .ok (.iconst 2, 1) := by decide +kernel
theorem dX1_carryOut_230 : decode cX1_carryOut 230 = .ok (.iastore, 1) := by decide +kernel
theorem dX1_carryOut_231 : decode cX1_carryOut 231 = .ok (.aload_n 0, 1) := by decide +kernel
theorem dX1_carryOut_232 : decode cX1_carryOut 232 = .ok (.getfield 25, 3) := by decide +kernel
theorem dX1_carryOut_235 : decode cX1_carryOut 235 = .ok (.iload_n 1, 1) := by decide +kernel
theorem dX1_carryOut_236 : decode cX1_carryOut 236 = .ok (.aload_n 0, 1) := by decide +kernel
theorem dX1_carryOut_237 : decode cX1_carryOut 237 = .ok (.getfield 43, 3) := by decide +kernel
theorem dX1_carryOut_240 : decode cX1_carryOut 240 = .ok (.iload 6, 2) := by decide +kernel
theorem dX1_carryOut_242 : decode cX1_carryOut 242 = .ok (.iaload, 1) := by decide +kernel
theorem dX1_carryOut_243 : decode cX1_carryOut 243 = .ok (.iastore, 1) := by decide +kernel
theorem dX1_carryOut_244 : decode cX1_carryOut 244 = .ok (.goto 101, 3) := by decide +kernel
theorem dX1_carryOut_247 : decode cX1_carryOut 247 = .ok (.iload 4, 2) := by decide +kernel
theorem dX1_carryOut_249 : decode cX1_carryOut 249 = .ok (.bipush 6, 2) := by decide +kernel
theorem dX1_carryOut_251 : decode cX1_carryOut 251 = .ok (.if_icmp .ne 23, 3) := by decide +kernel
theorem dX1_carryOut_254 : decode cX1_carryOut 254 = .ok (.aload_n 0, 1) := by decide +kernel
theorem dX1_carryOut_255 : decode cX1_carryOut 255 = .ok (.getfield 31, 3) := by decide +kernel
theorem dX1_carryOut_258 : decode cX1_carryOut 258 = .ok (.iload_n 1, 1) := by decide +kernel
theorem dX1_carryOut_259 : decode cX1_carryOut 259 = .ok (.iaload, 1) := by decide +kernel
theorem dX1_carryOut_260 : decode cX1_carryOut 260 = .ok (.iconst 4, 1) := by decide +kernel
theorem dX1_carryOut_261 : decode cX1_carryOut 261 = .ok (.if_icmp .ne 13, 3) := by decide +kernel
theorem dX1_carryOut_264 : decode cX1_carryOut 264 = .ok (.aload_n 0, 1) := by decide +kernel
theorem dX1_carryOut_265 : decode cX1_carryOut 265 = .ok (.iload_n 1, 1) := by decide +kernel
theorem dX1_carryOut_266 : decode cX1_carryOut 266 = .ok (.iconst 4, 1) := by decide +kernel
theorem dX1_carryOut_267 : decode cX1_carryOut 267 = .ok (.iconst 0, 1) := by decide +kernel
theorem dX1_carryOut_268 : decode cX1_carryOut 268 = .ok (.invokevirtual 54, 3) := by decide +kernel
theorem dX1_carryOut_271 : decode cX1_carryOut 271 = .ok (.goto 74, 3) := by decide +kernel
theorem dX1_carryOut_274 : decode cX1_carryOut 274 = .ok (.iload 4, 2) := by decide +kernel
theorem dX1_carryOut_276 : decode cX1_carryOut 276 = .ok (.bipush 6, 2) := by decide +kernel
theorem dX1_carryOut_278 : decode cX1_carryOut 278 = .ok (.if_icmp .ne 48, 3) := by decide +kernel
theorem dX1_carryOut_281 : decode cX1_carryOut 281 = .ok (.aload_n 0, 1) := by decide +kernel
theorem dX1_carryOut_282 : decode cX1_carryOut 282 = .ok (.getfield 40, 3) := by decide +kernel
theorem dX1_carryOut_285 : decode cX1_carryOut 285 = .ok (.iload_n 2, 1) := by decide +kernel
theorem dX1_carryOut_286 : decode cX1_carryOut 286 = .ok (.aload_n 0, 1) := by decide +kernel
theorem dX1_carryOut_287 : decode cX1_carryOut 287 = .ok (.getfield 16, 3) := by decide +kernel
theorem dX1_carryOut_290 : decode cX1_carryOut 290 = .ok (.iload_n 3, 1) := by decide +kernel
theorem dX1_carryOut_291 : decode cX1_carryOut 291 = .ok (.iaload, 1) := by decide +kernel
theorem dX1_carryOut_292 : decode cX1_carryOut 292 = .ok (.iconst 3, 1) := by decide +kernel
theorem dX1_carryOut_293 : decode cX1_carryOut 293 = .ok (.iand, 1) := by decide +kernel
theorem dX1_carryOut_294 : decode cX1_carryOut 294 = .ok (.iastore, 1) := by decide +kernel
theorem dX1_carryOut_295 : decode cX1_carryOut 295 = .ok (.aload_n 0, 1) := by decide +kernel
theorem dX1_carryOut_296 : decode cX1_carryOut 296 = .ok (.getfield 43, 3) := by decide +kernel
theorem dX1_carryOut_299 : decode cX1_carryOut 299 = .ok (.iload 6, 2) := by decide +kernel
theorem dX1_carryOut_301 : decode cX1_carryOut 301 = .ok (.iaload, 1) := by decide +kernel
theorem dX1_carryOut_302 : decode cX1_carryOut 302 = .ok (.istore 8, 2) := by decide +kernel
theorem dX1_carryOut_304 : decode cX1_carryOut 304 = .ok (.iload 5, 2) := by decide +kernel
theorem dX1_carryOut_306 : decode cX1_carryOut 306 = .ok (.iconst 3, 1) := by decide +kernel
theorem dX1_carryOut_307 : decode cX1_carryOut 307 = .ok (.irem, 1) := by decide +kernel
theorem dX1_carryOut_308 : decode cX1_carryOut 308 = .ok (.iconst 3, 1) := by decide +kernel
theorem dX1_carryOut_309 : decode cX1_carryOut 309 = .ok (.iadd, 1) := by decide +kernel
theorem dX1_carryOut_310 : decode cX1_carryOut 310 = .ok (.iconst 3, 1) := by decide +kernel
theorem dX1_carryOut_311 : decode cX1_carryOut 311 = .ok (.irem, 1) := by decide +kernel
theorem dX1_carryOut_312 : decode cX1_carryOut 312 = .ok (.istore 9, 2) := by decide +kernel
theorem dX1_carryOut_314 : decode cX1_carryOut 314 = .ok (.aload_n 0, 1) := by decide +kernel
theorem dX1_carryOut_315 : decode cX1_carryOut 315 = .ok (.iload_n 1, 1) := by decide +kernel
theorem dX1_carryOut_316 : decode cX1_carryOut 316 = .ok (.iload 9, 2) := by decide +kernel
theorem dX1_carryOut_318 : decode cX1_carryOut 318 = .ok (.iload 8, 2) := by decide +kernel
theorem dX1_carryOut_320 : decode cX1_carryOut 320 = .ok (.invokevirtual 50, 3) := by decide +kernel
theorem dX1_carryOut_323 : decode cX1_carryOut 323 = .ok (.goto 22, 3) := by decide +kernel
theorem dX1_carryOut_326 : decode cX1_carryOut 326 = .ok (.iload 4, 2) := by decide +kernel
theorem dX1_carryOut_328 : decode cX1_carryOut 328 = .ok (.bipush 7, 2) := by decide +kernel
theorem dX1_carryOut_330 : decode cX1_carryOut 330 = .ok (.if_icmp .ne 15, 3) := by decide +kernel
theorem dX1_carryOut_333 : decode cX1_carryOut 333 = .ok (.aload_n 0, 1) := by decide +kernel
theorem dX1_carryOut_334 : decode cX1_carryOut 334 = .ok (.iload_n 1, 1) := by decide +kernel
theorem dX1_carryOut_335 : decode cX1_carryOut 335 = .ok (.aload_n 0, 1) := by decide +kernel
theorem dX1_carryOut_336 : decode cX1_carryOut 336 = .ok (.getfield 43, 3) := by decide +kernel
theorem dX1_carryOut_339 : decode cX1_carryOut 339 = .ok (.iload 6, 2) := by decide +kernel
theorem dX1_carryOut_341 : decode cX1_carryOut 341 = .ok (.iaload, 1) := by decide +kernel
theorem dX1_carryOut_342 : decode cX1_carryOut 342 = .ok (.invokevirtual 57, 3) := by decide +kernel
theorem dX1_carryOut_345 : decode cX1_carryOut 345 = .ok (.return_, 1) := by decide +kernel
theorem dX1_echo_0 : decode cX1_echo 0 = .ok (.aload_n 0, 1) := by decide +kernel
theorem dX1_echo_1 : decode cX1_echo 1 = .ok (.iload_n 1, 1) := by decide +kernel
theorem dX1_echo_2 : decode cX1_echo 2 = .ok (.invokevirtual 46, 3) := by decide +kernel
theorem dX1_echo_5 : decode cX1_echo 5 = .ok (.ifCond .eq 5, 3) := by decide +kernel
theorem dX1_echo_8 : decode cX1_echo 8 = .ok (.iconst (-1), 1) := by decide +kernel
theorem dX1_echo_9 : decode cX1_echo 9 = .ok (.ireturn, 1) := by decide +kernel
theorem dX1_echo_10 : decode cX1_echo 10 = .ok (.aload_n 0, 1) := by decide +kernel
theorem dX1_echo_11 : decode cX1_echo 11 = .ok (.getfield 22, 3) := by decide +kernel
theorem dX1_echo_14 : decode cX1_echo 14 = .ok (.iload_n 1, 1) := by decide +kernel
theorem dX1_echo_15 : decode cX1_echo 15 = .ok (.iaload, 1) := by decide +kernel
theorem dX1_echo_16 : decode cX1_echo 16 = .ok (.iconst 2, 1) := by decide +kernel
theorem dX1_echo_17 : decode cX1_echo 17 = .ok (.if_icmp .eq 6, 3) := by decide +kernel
theorem dX1_echo_20 : decode cX1_echo 20 = .ok (.bipush (-4), 2) := by decide +kernel
theorem dX1_echo_22 : decode cX1_echo 22 = .ok (.ireturn, 1) := by decide +kernel
theorem dX1_echo_23 : decode cX1_echo 23 = .ok (.iconst 0, 1) := by decide +kernel
theorem dX1_echo_24 : decode cX1_echo 24 = .ok (.istore_n 3, 1) := by decide +kernel
theorem dX1_echo_25 : decode cX1_echo 25 = .ok (.iconst 0, 1) := by decide +kernel
theorem dX1_echo_26 : decode cX1_echo 26 = .ok (.istore 4, 2) := by decide +kernel
theorem dX1_echo_28 : decode cX1_echo 28 = .ok (.iload 4, 2) := by decide +kernel
theorem dX1_echo_30 : decode cX1_echo 30 = .ok (.bipush 20, 2) := by decide +kernel
theorem dX1_echo_32 : decode cX1_echo 32 = .ok (.if_icmp .ge 46, 3) := by decide +kernel
theorem dX1_echo_35 : decode cX1_echo 35 = .ok (.iload 4, 2) := by decide +kernel
theorem dX1_echo_37 : decode cX1_echo 37 = .ok (.iload_n 2, 1) := by decide +kernel
theorem dX1_echo_38 : decode cX1_echo 38 = .ok (.if_icmp .ge 34, 3) := by decide +kernel
theorem dX1_echo_41 : decode cX1_echo 41 = .ok (.aload_n 0, 1) := by decide +kernel
theorem dX1_echo_42 : decode cX1_echo 42 = .ok (.getfield 22, 3) := by decide +kernel
theorem dX1_echo_45 : decode cX1_echo 45 = .ok (.iload_n 1, 1) := by decide +kernel
theorem dX1_echo_46 : decode cX1_echo 46 = .ok (.iaload, 1) := by decide +kernel
theorem dX1_echo_47 : decode cX1_echo 47 = .ok (.iconst 2, 1) := by decide +kernel
theorem dX1_echo_48 : decode cX1_echo 48 = .ok (.if_icmp .ne 24, 3) := by decide +kernel
theorem dX1_echo_51 : decode cX1_echo 51 = .ok (.aload_n 0, 1) := by decide +kernel
theorem dX1_echo_52 : decode cX1_echo 52 = .ok (.iload_n 1, 1) := by decide +kernel
theorem dX1_echo_53 : decode cX1_echo 53 = .ok (.aload_n 0, 1) := by decide +kernel
theorem dX1_echo_54 : decode cX1_echo 54 = .ok (.getfield 25, 3) := by decide +kernel
theorem dX1_echo_57 : decode cX1_echo 57 = .ok (.iload_n 1, 1) := by decide +kernel
theorem dX1_echo_58 : decode cX1_echo 58 = .ok (.iaload, 1) := by decide +kernel
theorem dX1_echo_59 : decode cX1_echo 59 = .ok (.invokevirtual 68, 3) := by decide +kernel
theorem dX1_echo_62 : decode cX1_echo 62 = .ok (.pop, 1) := by decide +kernel
theorem dX1_echo_63 : decode cX1_echo 63 = .ok (.iload_n 3, 1) := by decide +kernel
theorem dX1_echo_64 : decode cX1_echo 64 = .ok (.aload_n 0, 1) := by decide +kernel
theorem dX1_echo_65 : decode cX1_echo 65 = .ok (.getfield 25, 3) := by decide +kernel
theorem dX1_echo_68 : decode cX1_echo 68 = .ok (.iload_n 1, 1) := by decide +kernel
theorem dX1_echo_69 : decode cX1_echo 69 = .ok (.iaload, 1) := by decide +kernel
theorem dX1_echo_70 : decode cX1_echo 70 = .ok (.iadd, 1) := by decide +kernel
theorem dX1_echo_71 : decode cX1_echo 71 = .ok (.istore_n 3, 1) := by decide +kernel
theorem dX1_echo_72 : decode cX1_echo 72 = .ok (.iinc 4 1, 3) := by decide +kernel
theorem dX1_echo_75 : decode cX1_echo 75 = .ok (.goto (-47), 3) := by decide +kernel
theorem dX1_echo_78 : decode cX1_echo 78 = .ok (.iload_n 3, 1) := by decide +kernel
theorem dX1_echo_79 : decode cX1_echo 79 = .ok (.ireturn, 1) := by decide +kernel
theorem dX1_copy_0 : decode cX1_copy 0 = .ok (.aload_n 0, 1) := by decide +kernel
theorem dX1_copy_1 : decode cX1_copy 1 = .ok (.iload_n 1, 1) := by decide +kernel
theorem dX1_copy_2 : decode cX1_copy 2 = .ok (.invokevirtual 46, 3) := by decide +kernel
theorem dX1_copy_5 : decode cX1_copy 5 = .ok (.ifCond .ne 11, 3) := by decide +kernel
theorem dX1_copy_8 : decode cX1_copy 8 = .ok (.aload_n 0, 1) := by decide +kernel
theorem dX1_copy_9 : decode cX1_copy 9 = .ok (.iload_n 2, 1) := by decide +kernel
theorem dX1_copy_10 : decode cX1_copy 10 = .ok (.invokevirtual 46, 3) := by decide +kernel
theorem dX1_copy_13 : decode cX1_copy 13 = .ok (.ifCond .eq 5, 3) := by decide +kernel
theorem dX1_copy_16 : decode cX1_copy 16 = .ok (.iconst (-1), 1) := by decide +kernel
theorem dX1_copy_17 : decode cX1_copy 17 = .ok (.ireturn, 1) := by decide +kernel
theorem dX1_copy_18 : decode cX1_copy 18 = .ok (.aload_n 0, 1) := by decide +kernel
theorem dX1_copy_19 : decode cX1_copy 19 = .ok (.getfield 22, 3) := by decide +kernel
theorem dX1_copy_22 : decode cX1_copy 22 = .ok (.iload_n 2, 1) := by decide +kernel
theorem dX1_copy_23 : decode cX1_copy 23 = .ok (.aload_n 0, 1) := by decide +kernel
theorem dX1_copy_24 : decode cX1_copy 24 = .ok (.getfield 22, 3) := by decide +kernel
theorem dX1_copy_27 : decode cX1_copy 27 = .ok (.iload_n 1, 1) := by decide +kernel
theorem dX1_copy_28 : decode cX1_copy 28 = .ok (.iaload, 1) := by decide +kernel
theorem dX1_copy_29 : decode cX1_copy 29 = .ok (.iastore, 1) := by decide +kernel
theorem dX1_copy_30 : decode cX1_copy 30 = .ok (.aload_n 0, 1) := by decide +kernel
theorem dX1_copy_31 : decode cX1_copy 31 = .ok (.getfield 25, 3) := by decide +kernel
theorem dX1_copy_34 : decode cX1_copy 34 = .ok (.iload_n 2, 1) := by decide +kernel
theorem dX1_copy_35 : decode cX1_copy 35 = .ok (.aload_n 0, 1) := by decide +kernel
theorem dX1_copy_36 : decode cX1_copy 36 = .ok (.getfield 25, 3) := by decide +kernel
theorem dX1_copy_39 : decode cX1_copy 39 = .ok (.iload_n 1, 1) := by decide +kernel
theorem dX1_copy_40 : decode cX1_copy 40 = .ok (.iaload, 1) := by decide +kernel
theorem dX1_copy_41 : decode cX1_copy 41 = .ok (.iastore, 1) := by decide +kernel
theorem dX1_copy_42 : decode cX1_copy 42 = .ok (.aload_n 0, 1) := by decide +kernel
theorem dX1_copy_43 : decode cX1_copy 43 = .ok (.getfield 28, 3) := by decide +kernel
theorem dX1_copy_46 : decode cX1_copy 46 = .ok (.iload_n 2, 1) := by decide +kernel
theorem dX1_copy_47 : decode cX1_copy 47 = .ok (.aload_n 0, 1) := by decide +kernel
theorem dX1_copy_48 : decode cX1_copy 48 = .ok (.getfield 28, 3) := by decide +kernel
theorem dX1_copy_51 : decode cX1_copy 51 = .ok (.iload_n 1, 1) := by decide +kernel
theorem dX1_copy_52 : decode cX1_copy 52 = .ok (.iaload, 1) := by decide +kernel
theorem dX1_copy_53 : decode cX1_copy 53 = .ok (.iastore, 1) := by decide +kernel
theorem dX1_copy_54 : decode cX1_copy 54 = .ok (.aload_n 0, 1) := by decide +kernel
theorem dX1_copy_55 : decode cX1_copy 55 = .ok (.getfield 31, 3) := by decide +kernel
theorem dX1_copy_58 : decode cX1_copy 58 = .ok (.iload_n 2, 1) := by decide +kernel
theorem dX1_copy_59 : decode cX1_copy 59 = .ok (.aload_n 0, 1) := by decide +kernel
theorem dX1_copy_60 : decode cX1_copy 60 = .ok (.getfield 31, 3) := by decide +kernel
theorem dX1_copy_63 : decode cX1_copy 63 = .ok (.iload_n 1, 1) := by decide +kernel
theorem dX1_copy_64 : decode cX1_copy 64 = .ok (.iaload, 1) := by decide +kernel
theorem dX1_copy_65 : decode cX1_copy 65 = .ok (.iastore, 1) := by decide +kernel
theorem dX1_copy_66 : decode cX1_copy 66 = .ok (.iconst 0, 1) := by decide +kernel
theorem dX1_copy_67 : decode cX1_copy 67 = .ok (.istore_n 3, 1) := by decide +kernel
theorem dX1_copy_68 : decode cX1_copy 68 = .ok (.iload_n 3, 1) := by decide +kernel
theorem dX1_copy_69 : decode cX1_copy 69 = .ok (.iconst 4, 1) := by decide +kernel
theorem dX1_copy_70 : decode cX1_copy 70 = .ok (.if_icmp .ge 69, 3) := by decide +kernel
theorem dX1_copy_73 : decode cX1_copy 73 = .ok (.aload_n 0, 1) := by decide +kernel
theorem dX1_copy_74 : decode cX1_copy 74 = .ok (.getfield 34, 3) := by decide +kernel
theorem dX1_copy_77 : decode cX1_copy 77 = .ok (.iload_n 2, 1) := by decide +kernel
theorem dX1_copy_78 : decode cX1_copy 78 = .ok (.iconst 4, 1) := by decide +kernel
theorem dX1_copy_79 : decode cX1_copy 79 = .ok (.imul, 1) := by decide +kernel
theorem dX1_copy_80 : decode cX1_copy 80 = .ok (.iload_n 3, 1) := by decide +kernel
theorem dX1_copy_81 : decode cX1_copy 81 = .ok (.iadd, 1) := by decide +kernel
theorem dX1_copy_82 : decode cX1_copy 82 = .ok (.aload_n 0, 1) := by decide +kernel
theorem dX1_copy_83 : decode cX1_copy 83 = .ok (.getfield 34, 3) := by decide +kernel
theorem dX1_copy_86 : decode cX1_copy 86 = .ok (.iload_n 1, 1) := by decide +kernel
theorem dX1_copy_87 : decode cX1_copy 87 = .ok (.iconst 4, 1) := by decide +kernel
theorem dX1_copy_88 : decode cX1_copy 88 = .ok (.imul, 1) := by decide +kernel
theorem dX1_copy_89 : decode cX1_copy 89 = .ok (.iload_n 3, 1) := by decide +kernel
theorem dX1_copy_90 : decode cX1_copy 90 = .ok (.iadd, 1) := by decide +kernel
theorem dX1_copy_91 : decode cX1_copy 91 = .ok (.iaload, 1) := by decide +kernel
theorem dX1_copy_92 : decode cX1_copy 92 = .ok (.iastore, 1) := by decide +kernel
theorem dX1_copy_93 : decode cX1_copy 93 = .ok (.aload_n 0, 1) := by decide +kernel
theorem dX1_copy_94 : decode cX1_copy 94 = .ok (.getfield 37, 3) := by decide +kernel
theorem dX1_copy_97 : decode cX1_copy 97 = .ok (.iload_n 2, 1) := by decide +kernel
theorem dX1_copy_98 : decode cX1_copy 98 = .ok (.iconst 4, 1) := by decide +kernel
theorem dX1_copy_99 : decode cX1_copy 99 = .ok (.imul, 1) := by decide +kernel
theorem dX1_copy_100 : decode cX1_copy 100 = .ok (.iload_n 3, 1) := by decide +kernel
theorem dX1_copy_101 : decode cX1_copy 101 = .ok (.iadd, 1) := by decide +kernel
theorem dX1_copy_102 : decode cX1_copy 102 = .ok (.aload_n 0, 1) := by decide +kernel
theorem dX1_copy_103 : decode cX1_copy 103 = .ok (.getfield 37, 3) := by decide +kernel
theorem dX1_copy_106 : decode cX1_copy 106 = .ok (.iload_n 1, 1) := by decide +kernel
theorem dX1_copy_107 : decode cX1_copy 107 = .ok (.iconst 4, 1) := by decide +kernel
theorem dX1_copy_108 : decode cX1_copy 108 = .ok (.imul, 1) := by decide +kernel
theorem dX1_copy_109 : decode cX1_copy 109 = .ok (.iload_n 3, 1) := by decide +kernel
theorem dX1_copy_110 : decode cX1_copy 110 = .ok (.iadd, 1) := by decide +kernel
theorem dX1_copy_111 : decode cX1_copy 111 = .ok (.iaload, 1) := by decide +kernel
theorem dX1_copy_112 : decode cX1_copy 112 = .ok (.iastore, 1) := by decide +kernel
theorem dX1_copy_113 : decode cX1_copy 113 = .ok (.aload_n 0, 1) := by decide +kernel
theorem dX1_copy_114 : decode cX1_copy 114 = .ok (.getfield 40, 3) := by decide +kernel
theorem dX1_copy_117 : decode cX1_copy 117 = .ok (.iload_n 2, 1) := by decide +kernel
theorem dX1_copy_118 : decode cX1_copy 118 = .ok (.iconst 4, 1) := by decide +kernel
theorem dX1_copy_119 : decode cX1_copy 119 = .ok (.imul, 1) := by decide +kernel
theorem dX1_copy_120 : decode cX1_copy 120 = .ok (.iload_n 3, 1) := by decide +kernel
theorem dX1_copy_121 : decode cX1_copy 121 = .ok (.iadd, 1) := by decide +kernel
theorem dX1_copy_122 : decode cX1_copy 122 = .ok (.aload_n 0, 1) := by decide +kernel
theorem dX1_copy_123 : decode cX1_copy 123 = .ok (.getfield 40, 3) := by decide +kernel
theorem dX1_copy_126 : decode cX1_copy 126 = .ok (.iload_n 1, 1) := by decide +kernel
theorem dX1_copy_127 : decode cX1_copy 127 = .ok (.iconst 4, 1) := by decide +kernel
theorem dX1_copy_128 : decode cX1_copy 128 = .ok (.imul, 1) := by decide +kernel
theorem dX1_copy_129 : decode cX1_copy 129 = .ok (.iload_n 3, 1) := by decide +kernel
theorem dX1_copy_130 : decode cX1_copy 130 = .ok (.iadd, 1) := by decide +kernel
theorem dX1_copy_131 : decode cX1_copy 131 = .ok (.iaload, 1) := by decide +kernel
theorem dX1_copy_132 : decode cX1_copy 132 = .ok (.iastore, 1) := by decide +kernel
theorem dX1_copy_133 : decode cX1_copy 133 = .ok (.iinc 3 1, 3) := by decide +kernel
theorem dX1_copy_136 : decode cX1_copy 136 = .ok (.goto (-68), 3) := by decide +kernel
theorem dX1_copy_139 : decode cX1_copy 139 = .ok (.iconst 0, 1) := by decide +kernel
theorem dX1_copy_140 : decode cX1_copy 140 = .ok (.istore_n 3, 1) := by decide +kernel
theorem dX1_copy_141 : decode cX1_copy 141 = .ok (.iload_n 3, 1) := by decide +kernel
theorem dX1_copy_142 : decode cX1_copy 142 = .ok (.bipush 16, 2) := by decide +kernel
theorem dX1_copy_144 : decode cX1_copy 144 = .ok (.if_icmp .ge 31, 3) := by decide +kernel
theorem dX1_copy_147 : decode cX1_copy 147 = .ok (.aload_n 0, 1) := by decide +kernel
theorem dX1_copy_148 : decode cX1_copy 148 = .ok (.getfield 43, 3) := by decide +kernel
theorem dX1_copy_151 : decode cX1_copy 151 = .ok (.iload_n 2, 1) := by decide +kernel
theorem dX1_copy_152 : decode cX1_copy 152 = .ok (.bipush 16, 2) := by decide +kernel
theorem dX1_copy_154 : decode cX1_copy 154 = .ok (.imul, 1) := by decide +kernel
theorem dX1_copy_155 : decode cX1_copy 155 = .ok (.iload_n 3, 1) := by decide +kernel
theorem dX1_copy_156 : decode cX1_copy 156 = .ok (.iadd, 1) := by decide +kernel
theorem dX1_copy_157 : decode cX1_copy 157 = .ok (.aload_n 0, 1) := by decide +kernel
theorem dX1_copy_158 : decode cX1_copy 158 = .ok (.getfield 43, 3) := by decide +kernel
theorem dX1_copy_161 : decode cX1_copy 161 = .ok (.iload_n 1, 1) := by decide +kernel
theorem dX1_copy_162 : decode cX1_copy 162 = .ok (.bipush 16, 2) := by decide +kernel
theorem dX1_copy_164 : decode cX1_copy 164 = .ok (.imul, 1) := by decide +kernel
theorem dX1_copy_165 : decode cX1_copy 165 = .ok (.iload_n 3, 1) := by decide +kernel
theorem dX1_copy_166 : decode cX1_copy 166 = .ok (.iadd, 1) := by decide +kernel
theorem dX1_copy_167 : decode cX1_copy 167 = .ok (.iaload, 1) := by decide +kernel
theorem dX1_copy_168 : decode cX1_copy 168 = .ok (.iastore, 1) := by decide +kernel
theorem dX1_copy_169 : decode cX1_copy 169 = .ok (.iinc 3 1, 3) := by decide +kernel
end
section
set_option maxRecDepth 100000
theorem dX1_copy_172 : decode cX1_copy 172 = .ok (.goto (-31), 3) := by decide +kernel
theorem dX1_copy_175 : decode cX1_copy 175 = .ok (.aload_n 0, 1) := by decide +kernel
theorem dX1_copy_176 : decode cX1_copy 176 = .ok (.getfield 22, 3) := by decide +kernel
theorem dX1_copy_179 : decode cX1_copy 179 = .ok (.iload_n 2, 1) := by decide +kernel
theorem dX1_copy_180 : decode cX1_copy 180 = .ok (.iaload, 1) := by decide +kernel
theorem dX1_copy_181 : decode cX1_copy 181 = .ok (.ireturn, 1) := by decide +kernel
theorem dX1_drop_0 : decode cX1_drop 0 = .ok (.aload_n 0, 1) := by decide +kernel
theorem dX1_drop_1 : decode cX1_drop 1 = .ok (.iload_n 1, 1) := by decide +kernel
theorem dX1_drop_2 : decode cX1_drop 2 = .ok (.invokevirtual 46, 3) := by decide +kernel
theorem dX1_drop_5 : decode cX1_drop 5 = .ok (.ifCond .eq 5, 3) := by decide +kernel
theorem dX1_drop_8 : decode cX1_drop 8 = .ok (.iconst (-1), 1) := by decide +kernel
theorem dX1_drop_9 : decode cX1_drop 9 = .ok (.ireturn, 1) := by decide +kernel
theorem dX1_drop_10 : decode cX1_drop 10 = .ok (.aload_n 0, 1) := by decide +kernel
theorem dX1_drop_11 : decode cX1_drop 11 = .ok (.getfield 22, 3) := by decide +kernel
theorem dX1_drop_14 : decode cX1_drop 14 = .ok (.iload_n 1, 1) := by decide +kernel
theorem dX1_drop_15 : decode cX1_drop 15 = .ok (.iaload, 1) := by decide +kernel
theorem dX1_drop_16 : decode cX1_drop 16 = .ok (.istore_n 2, 1) := by decide +kernel
theorem dX1_drop_17 : decode cX1_drop 17 = .ok (.aload_n 0, 1) := by decide +kernel
theorem dX1_drop_18 : decode cX1_drop 18 = .ok (.iload_n 1, 1) := by decide +kernel
theorem dX1_drop_19 : decode cX1_drop 19 = .ok (.iconst 0, 1) := by decide +kernel
theorem dX1_drop_20 : decode cX1_drop 20 = .ok (.iconst 0, 1) := by decide +kernel
theorem dX1_drop_21 : decode cX1_drop 21 = .ok (.invokevirtual 54, 3) := by decide +kernel
theorem dX1_drop_24 : decode cX1_drop 24 = .ok (.aload_n 0, 1) := by decide +kernel
theorem dX1_drop_25 : decode cX1_drop 25 = .ok (.getfield 28, 3) := by decide +kernel
theorem dX1_drop_28 : decode cX1_drop 28 = .ok (.iload_n 1, 1) := by decide +kernel
theorem dX1_drop_29 : decode cX1_drop 29 = .ok (.iconst 0, 1) := by decide +kernel
theorem dX1_drop_30 : decode cX1_drop 30 = .ok (.iastore, 1) := by decide +kernel
theorem dX1_drop_31 : decode cX1_drop 31 = .ok (.iload_n 2, 1) := by decide +kernel
theorem dX1_drop_32 : decode cX1_drop 32 = .ok (.ireturn, 1) := by decide +kernel
theorem dX1_state_0 : decode cX1_state 0 = .ok (.aload_n 0, 1) := by decide +kernel
theorem dX1_state_1 : decode cX1_state 1 = .ok (.iload_n 1, 1) := by decide +kernel
theorem dX1_state_2 : decode cX1_state 2 = .ok (.invokevirtual 46, 3) := by decide +kernel
theorem dX1_state_5 : decode cX1_state 5 = .ok (.ifCond .eq 7, 3) := by decide +kernel
theorem dX1_state_8 : decode cX1_state 8 = .ok (.iconst (-1), 1) := by decide +kernel
theorem dX1_state_9 : decode cX1_state 9 = .ok (.goto 9, 3) := by decide +kernel
theorem dX1_state_12 : decode cX1_state 12 = .ok (.aload_n 0, 1) := by decide +kernel
theorem dX1_state_13 : decode cX1_state 13 = .ok (.getfield 22, 3) := by decide +kernel
theorem dX1_state_16 : decode cX1_state 16 = .ok (.iload_n 1, 1) := by decide +kernel
theorem dX1_state_17 : decode cX1_state 17 = .ok (.iaload, 1) := by decide +kernel
theorem dX1_state_18 : decode cX1_state 18 = .ok (.ireturn, 1) := by decide +kernel
theorem dX1_value_0 : decode cX1_value 0 = .ok (.aload_n 0, 1) := by decide +kernel
theorem dX1_value_1 : decode cX1_value 1 = .ok (.iload_n 1, 1) := by decide +kernel
theorem dX1_value_2 : decode cX1_value 2 = .ok (.invokevirtual 46, 3) := by decide +kernel
theorem dX1_value_5 : decode cX1_value 5 = .ok (.ifCond .eq 7, 3) := by decide +kernel
theorem dX1_value_8 : decode cX1_value 8 = .ok (.iconst (-1), 1) := by decide +kernel
theorem dX1_value_9 : decode cX1_value 9 = .ok (.goto 9, 3) := by decide +kernel
theorem dX1_value_12 : decode cX1_value 12 = .ok (.aload_n 0, 1) := by decide +kernel
theorem dX1_value_13 : decode cX1_value 13 = .ok (.getfield 25, 3) := by decide +kernel
theorem dX1_value_16 : decode cX1_value 16 = .ok (.iload_n 1, 1) := by decide +kernel
theorem dX1_value_17 : decode cX1_value 17 = .ok (.iaload, 1) := by decide +kernel
theorem dX1_value_18 : decode cX1_value 18 = .ok (.ireturn, 1) := by decide +kernel
theorem dX1_depth_0 : decode cX1_depth 0 = .ok (.aload_n 0, 1) := by decide +kernel
theorem dX1_depth_1 : decode cX1_depth 1 = .ok (.iload_n 1, 1) := by decide +kernel
theorem dX1_depth_2 : decode cX1_depth 2 = .ok (.invokevirtual 46, 3) := by decide +kernel
theorem dX1_depth_5 : decode cX1_depth 5 = .ok (.ifCond .eq 7, 3) := by decide +kernel
theorem dX1_depth_8 : decode cX1_depth 8 = .ok (.iconst (-1), 1) := by decide +kernel
theorem dX1_depth_9 : decode cX1_depth 9 = .ok (.goto 9, 3) := by decide +kernel
theorem dX1_depth_12 : decode cX1_depth 12 = .ok (.aload_n 0, 1) := by decide +kernel
theorem dX1_depth_13 : decode cX1_depth 13 = .ok (.getfield 31, 3) := by decide +kernel
theorem dX1_depth_16 : decode cX1_depth 16 = .ok (.iload_n 1, 1) := by decide +kernel
theorem dX1_depth_17 : decode cX1_depth 17 = .ok (.iaload, 1) := by decide +kernel
theorem dX1_depth_18 : decode cX1_depth 18 = .ok (.ireturn, 1) := by decide +kernel
theorem dX1_alike_0 : decode cX1_alike 0 = .ok (.aload_n 0, 1) := by decide +kernel
theorem dX1_alike_1 : decode cX1_alike 1 = .ok (.iload_n 1, 1) := by decide +kernel
theorem dX1_alike_2 : decode cX1_alike 2 = .ok (.invokevirtual 46, 3) := by decide +kernel
theorem dX1_alike_5 : decode cX1_alike 5 = .ok (.ifCond .ne 45, 3) := by decide +kernel
theorem dX1_alike_8 : decode cX1_alike 8 = .ok (.aload_n 0, 1) := by decide +kernel
theorem dX1_alike_9 : decode cX1_alike 9 = .ok (.iload_n 2, 1) := by decide +kernel
theorem dX1_alike_10 : decode cX1_alike 10 = .ok (.invokevirtual 46, 3) := by decide +kernel
theorem dX1_alike_13 : decode cX1_alike 13 = .ok (.ifCond .ne 37, 3) := by decide +kernel
theorem dX1_alike_16 : decode cX1_alike 16 = .ok (.aload_n 0, 1) := by decide +kernel
theorem dX1_alike_17 : decode cX1_alike 17 = .ok (.getfield 22, 3) := by decide +kernel
theorem dX1_alike_20 : decode cX1_alike 20 = .ok (.iload_n 1, 1) := by decide +kernel
theorem dX1_alike_21 : decode cX1_alike 21 = .ok (.iaload, 1) := by decide +kernel
theorem dX1_alike_22 : decode cX1_alike 22 = .ok (.aload_n 0, 1) := by decide +kernel
theorem dX1_alike_23 : decode cX1_alike 23 = .ok (.getfield 22, 3) := by decide +kernel
theorem dX1_alike_26 : decode cX1_alike 26 = .ok (.iload_n 2, 1) := by decide +kernel
theorem dX1_alike_27 : decode cX1_alike 27 = .ok (.iaload, 1) := by decide +kernel
theorem dX1_alike_28 : decode cX1_alike 28 = .ok (.if_icmp .ne 22, 3) := by decide +kernel
theorem dX1_alike_31 : decode cX1_alike 31 = .ok (.aload_n 0, 1) := by decide +kernel
theorem dX1_alike_32 : decode cX1_alike 32 = .ok (.getfield 25, 3) := by decide +kernel
theorem dX1_alike_35 : decode cX1_alike 35 = .ok (.iload_n 1, 1) := by decide +kernel
theorem dX1_alike_36 : decode cX1_alike 36 = .ok (.iaload, 1) := by decide +kernel
theorem dX1_alike_37 : decode cX1_alike 37 = .ok (.aload_n 0, 1) := by decide +kernel
theorem dX1_alike_38 : decode cX1_alike 38 = .ok (.getfield 25, 3) := by decide +kernel
theorem dX1_alike_41 : decode cX1_alike 41 = .ok (.iload_n 2, 1) := by decide +kernel
theorem dX1_alike_42 : decode cX1_alike 42 = .ok (.iaload, 1) := by decide +kernel
theorem dX1_alike_43 : decode cX1_alike 43 = .ok (.if_icmp .ne 7, 3) := by decide +kernel
theorem dX1_alike_46 : decode cX1_alike 46 = .ok (.iconst 1, 1) := by decide +kernel
theorem dX1_alike_47 : decode cX1_alike 47 = .ok (.goto 4, 3) := by decide +kernel
theorem dX1_alike_50 : decode cX1_alike 50 = .ok (.iconst 0, 1) := by decide +kernel
theorem dX1_alike_51 : decode cX1_alike 51 = .ok (.ireturn, 1) := by decide +kernel
theorem dX1_steps_0 : decode cX1_steps 0 = .ok (.aload_n 0, 1) := by decide +kernel
theorem dX1_steps_1 : decode cX1_steps 1 = .ok (.iload_n 1, 1) := by decide +kernel
theorem dX1_steps_2 : decode cX1_steps 2 = .ok (.invokevirtual 46, 3) := by decide +kernel
theorem dX1_steps_5 : decode cX1_steps 5 = .ok (.ifCond .eq 7, 3) := by decide +kernel
theorem dX1_steps_8 : decode cX1_steps 8 = .ok (.iconst (-1), 1) := by decide +kernel
theorem dX1_steps_9 : decode cX1_steps 9 = .ok (.goto 9, 3) := by decide +kernel
theorem dX1_steps_12 : decode cX1_steps 12 = .ok (.aload_n 0, 1) := by decide +kernel
theorem dX1_steps_13 : decode cX1_steps 13 = .ok (.getfield 28, 3) := by decide +kernel
theorem dX1_steps_16 : decode cX1_steps 16 = .ok (.iload_n 1, 1) := by decide +kernel
theorem dX1_steps_17 : decode cX1_steps 17 = .ok (.iaload, 1) := by decide +kernel
theorem dX1_steps_18 : decode cX1_steps 18 = .ok (.ireturn, 1) := by decide +kernel
end
section
set_option maxRecDepth 100000
theorem dL_law_0 : decode cL_law 0 = .ok (.new 7, 3) := by decide +kernel
theorem dL_law_3 : decode cL_law 3 = .ok (.dup, 1) := by decide +kernel
theorem dL_law_4 : decode cL_law 4 = .ok (.invokespecial 9, 3) := by decide +kernel
theorem dL_law_7 : decode cL_law 7 = .ok (.astore_n 1, 1) := by decide +kernel
theorem dL_law_8 : decode cL_law 8 = .ok (.new 10, 3) := by decide +kernel
theorem dL_law_11 : decode cL_law 11 = .ok (.dup, 1) := by decide +kernel
theorem dL_law_12 : decode cL_law 12 = .ok (.invokespecial 12, 3) := by decide +kernel
theorem dL_law_15 : decode cL_law 15 = .ok (.astore_n 2, 1) := by decide +kernel
theorem dL_law_16 : decode cL_law 16 = .ok (.iconst 0, 1) := by decide +kernel
theorem dL_law_17 : decode cL_law 17 = .ok (.istore_n 3, 1) := by decide +kernel
theorem dL_law_18 : decode cL_law 18 = .ok (.iload_n 3, 1) := by decide +kernel
theorem dL_law_19 : decode cL_law 19 = .ok (.aload_n 0, 1) := by decide +kernel
theorem dL_law_20 : decode cL_law 20 = .ok (.arraylength, 1) := by decide +kernel
theorem dL_law_21 : decode cL_law 21 = .ok (.iconst 5, 1) := by decide +kernel
theorem dL_law_22 : decode cL_law 22 = .ok (.isub, 1) := by decide +kernel
theorem dL_law_23 : decode cL_law 23 = .ok (.if_icmp .gt 418, 3) := by decide +kernel
theorem dL_law_26 : decode cL_law 26 = .ok (.aload_n 0, 1) := by decide +kernel
theorem dL_law_27 : decode cL_law 27 = .ok (.iload_n 3, 1) := by decide +kernel
theorem dL_law_28 : decode cL_law 28 = .ok (.iaload, 1) := by decide +kernel
theorem dL_law_29 : decode cL_law 29 = .ok (.bipush 15, 2) := by decide +kernel
theorem dL_law_31 : decode cL_law 31 = .ok (.iand, 1) := by decide +kernel
theorem dL_law_32 : decode cL_law 32 = .ok (.tableswitch 403 0 10 #[60, 113, 156, 189, 222, 255, 278, 301, 324, 347, 380], 60) := by decide +kernel
theorem dL_law_92 : decode cL_law 92 = .ok (.aload_n 1, 1) := by decide +kernel
theorem dL_law_93 : decode cL_law 93 = .ok (.aload_n 0, 1) := by decide +kernel
theorem dL_law_94 : decode cL_law 94 = .ok (.iload_n 3, 1) := by decide +kernel
theorem dL_law_95 : decode cL_law 95 = .ok (.iconst 1, 1) := by decide +kernel
theorem dL_law_96 : decode cL_law 96 = .ok (.iadd, 1) := by decide +kernel
theorem dL_law_97 : decode cL_law 97 = .ok (.iaload, 1) := by decide +kernel
theorem dL_law_98 : decode cL_law 98 = .ok (.aload_n 0, 1) := by decide +kernel
theorem dL_law_99 : decode cL_law 99 = .ok (.iload_n 3, 1) := by decide +kernel
theorem dL_law_100 : decode cL_law 100 = .ok (.iconst 2, 1) := by decide +kernel
theorem dL_law_101 : decode cL_law 101 = .ok (.iadd, 1) := by decide +kernel
theorem dL_law_102 : decode cL_law 102 = .ok (.iaload, 1) := by decide +kernel
theorem dL_law_103 : decode cL_law 103 = .ok (.aload_n 0, 1) := by decide +kernel
theorem dL_law_104 : decode cL_law 104 = .ok (.iload_n 3, 1) := by decide +kernel
theorem dL_law_105 : decode cL_law 105 = .ok (.iconst 3, 1) := by decide +kernel
theorem dL_law_106 : decode cL_law 106 = .ok (.iadd, 1) := by decide +kernel
theorem dL_law_107 : decode cL_law 107 = .ok (.iaload, 1) := by decide +kernel
theorem dL_law_108 : decode cL_law 108 = .ok (.aload_n 0, 1) := by decide +kernel
theorem dL_law_109 : decode cL_law 109 = .ok (.iload_n 3, 1) := by decide +kernel
theorem dL_law_110 : decode cL_law 110 = .ok (.iconst 4, 1) := by decide +kernel
theorem dL_law_111 : decode cL_law 111 = .ok (.iadd, 1) := by decide +kernel
theorem dL_law_112 : decode cL_law 112 = .ok (.iaload, 1) := by decide +kernel
theorem dL_law_113 : decode cL_law 113 = .ok (.invokevirtual 13, 3) := by decide +kernel
theorem dL_law_116 : decode cL_law 116 = .ok (.aload_n 2, 1) := by decide +kernel
theorem dL_law_117 : decode cL_law 117 = .ok (.aload_n 0, 1) := by decide +kernel
theorem dL_law_118 : decode cL_law 118 = .ok (.iload_n 3, 1) := by decide +kernel
theorem dL_law_119 : decode cL_law 119 = .ok (.iconst 1, 1) := by decide +kernel
theorem dL_law_120 : decode cL_law 120 = .ok (.iadd, 1) := by decide +kernel
theorem dL_law_121 : decode cL_law 121 = .ok (.iaload, 1) := by decide +kernel
theorem dL_law_122 : decode cL_law 122 = .ok (.aload_n 0, 1) := by decide +kernel
theorem dL_law_123 : decode cL_law 123 = .ok (.iload_n 3, 1) := by decide +kernel
theorem dL_law_124 : decode cL_law 124 = .ok (.iconst 2, 1) := by decide +kernel
theorem dL_law_125 : decode cL_law 125 = .ok (.iadd, 1) := by decide +kernel
theorem dL_law_126 : decode cL_law 126 = .ok (.iaload, 1) := by decide +kernel
theorem dL_law_127 : decode cL_law 127 = .ok (.aload_n 0, 1) := by decide +kernel
theorem dL_law_128 : decode cL_law 128 = .ok (.iload_n 3, 1) := by decide +kernel
theorem dL_law_129 : decode cL_law 129 = .ok (.iconst 3, 1) := by decide +kernel
theorem dL_law_130 : decode cL_law 130 = .ok (.iadd, 1) := by decide +kernel
theorem dL_law_131 : decode cL_law 131 = .ok (.iaload, 1) := by decide +kernel
theorem dL_law_132 : decode cL_law 132 = .ok (.aload_n 0, 1) := by decide +kernel
theorem dL_law_133 : decode cL_law 133 = .ok (.iload_n 3, 1) := by decide +kernel
theorem dL_law_134 : decode cL_law 134 = .ok (.iconst 4, 1) := by decide +kernel
theorem dL_law_135 : decode cL_law 135 = .ok (.iadd, 1) := by decide +kernel
theorem dL_law_136 : decode cL_law 136 = .ok (.iaload, 1) := by decide +kernel
theorem dL_law_137 : decode cL_law 137 = .ok (.invokevirtual 17, 3) := by decide +kernel
theorem dL_law_140 : decode cL_law 140 = .ok (.if_icmp .eq 295, 3) := by decide +kernel
theorem dL_law_143 : decode cL_law 143 = .ok (.iconst 0, 1) := by decide +kernel
theorem dL_law_144 : decode cL_law 144 = .ok (.ireturn, 1) := by decide +kernel
theorem dL_law_145 : decode cL_law 145 = .ok (.aload_n 1, 1) := by decide +kernel
theorem dL_law_146 : decode cL_law 146 = .ok (.aload_n 0, 1) := by decide +kernel
theorem dL_law_147 : decode cL_law 147 = .ok (.iload_n 3, 1) := by decide +kernel
theorem dL_law_148 : decode cL_law 148 = .ok (.iconst 1, 1) := by decide +kernel
theorem dL_law_149 : decode cL_law 149 = .ok (.iadd, 1) := by decide +kernel
theorem dL_law_150 : decode cL_law 150 = .ok (.iaload, 1) := by decide +kernel
theorem dL_law_151 : decode cL_law 151 = .ok (.aload_n 0, 1) := by decide +kernel
theorem dL_law_152 : decode cL_law 152 = .ok (.iload_n 3, 1) := by decide +kernel
theorem dL_law_153 : decode cL_law 153 = .ok (.iconst 2, 1) := by decide +kernel
theorem dL_law_154 : decode cL_law 154 = .ok (.iadd, 1) := by decide +kernel
theorem dL_law_155 : decode cL_law 155 = .ok (.iaload, 1) := by decide +kernel
theorem dL_law_156 : decode cL_law 156 = .ok (.aload_n 0, 1) := by decide +kernel
theorem dL_law_157 : decode cL_law 157 = .ok (.iload_n 3, 1) := by decide +kernel
theorem dL_law_158 : decode cL_law 158 = .ok (.iconst 3, 1) := by decide +kernel
theorem dL_law_159 : decode cL_law 159 = .ok (.iadd, 1) := by decide +kernel
theorem dL_law_160 : decode cL_law 160 = .ok (.iaload, 1) := by decide +kernel
theorem dL_law_161 : decode cL_law 161 = .ok (.invokevirtual 18, 3) := by decide +kernel
theorem dL_law_164 : decode cL_law 164 = .ok (.aload_n 2, 1) := by decide +kernel
theorem dL_law_165 : decode cL_law 165 = .ok (.aload_n 0, 1) := by decide +kernel
theorem dL_law_166 : decode cL_law 166 = .ok (.iload_n 3, 1) := by decide +kernel
theorem dL_law_167 : decode cL_law 167 = .ok (.iconst 1, 1) := by decide +kernel
theorem dL_law_168 : decode cL_law 168 = .ok (.iadd, 1) := by decide +kernel
theorem dL_law_169 : decode cL_law 169 = .ok (.iaload, 1) := by decide +kernel
theorem dL_law_170 : decode cL_law 170 = .ok (.aload_n 0, 1) := by decide +kernel
theorem dL_law_171 : decode cL_law 171 = .ok (.iload_n 3, 1) := by decide +kernel
theorem dL_law_172 : decode cL_law 172 = .ok (.iconst 2, 1) := by decide +kernel
theorem dL_law_173 : decode cL_law 173 = .ok (.iadd, 1) := by decide +kernel
theorem dL_law_174 : decode cL_law 174 = .ok (.iaload, 1) := by decide +kernel
theorem dL_law_175 : decode cL_law 175 = .ok (.aload_n 0, 1) := by decide +kernel
theorem dL_law_176 : decode cL_law 176 = .ok (.iload_n 3, 1) := by decide +kernel
theorem dL_law_177 : decode cL_law 177 = .ok (.iconst 3, 1) := by decide +kernel
theorem dL_law_178 : decode cL_law 178 = .ok (.iadd, 1) := by decide +kernel
theorem dL_law_179 : decode cL_law 179 = .ok (.iaload, 1) := by decide +kernel
theorem dL_law_180 : decode cL_law 180 = .ok (.invokevirtual 22, 3) := by decide +kernel
theorem dL_law_183 : decode cL_law 183 = .ok (.if_icmp .eq 252, 3) := by decide +kernel
theorem dL_law_186 : decode cL_law 186 = .ok (.iconst 0, 1) := by decide +kernel
theorem dL_law_187 : decode cL_law 187 = .ok (.ireturn, 1) := by decide +kernel
theorem dL_law_188 : decode cL_law 188 = .ok (.aload_n 1, 1) := by decide +kernel
theorem dL_law_189 : decode cL_law 189 = .ok (.aload_n 0, 1) := by decide +kernel
theorem dL_law_190 : decode cL_law 190 = .ok (.iload_n 3, 1) := by decide +kernel
theorem dL_law_191 : decode cL_law 191 = .ok (.iconst 1, 1) := by decide +kernel
theorem dL_law_192 : decode cL_law 192 = .ok (.iadd, 1) := by decide +kernel
theorem dL_law_193 : decode cL_law 193 = .ok (.iaload, 1) := by decide +kernel
theorem dL_law_194 : decode cL_law 194 = .ok (.aload_n 0, 1) := by decide +kernel
theorem dL_law_195 : decode cL_law 195 = .ok (.iload_n 3, 1) := by decide +kernel
theorem dL_law_196 : decode cL_law 196 = .ok (.iconst 2, 1) := by decide +kernel
theorem dL_law_197 : decode cL_law 197 = .ok (.iadd, 1) := by decide +kernel
theorem dL_law_198 : decode cL_law 198 = .ok (.iaload, 1) := by decide +kernel
theorem dL_law_199 : decode cL_law 199 = .ok (.invokevirtual 23, 3) := by decide +kernel
theorem dL_law_202 : decode cL_law 202 = .ok (.aload_n 2, 1) := by decide +kernel
theorem dL_law_203 : decode cL_law 203 = .ok (.aload_n 0, 1) := by decide +kernel
theorem dL_law_204 : decode cL_law 204 = .ok (.iload_n 3, 1) := by decide +kernel
theorem dL_law_205 : decode cL_law 205 = .ok (.iconst 1, 1) := by decide +kernel
theorem dL_law_206 : decode cL_law 206 = .ok (.iadd, 1) := by decide +kernel
theorem dL_law_207 : decode cL_law 207 = .ok (.iaload, 1) := by decide +kernel
theorem dL_law_208 : decode cL_law 208 = .ok (.aload_n 0, 1) := by decide +kernel
theorem dL_law_209 : decode cL_law 209 = .ok (.iload_n 3, 1) := by decide +kernel
theorem dL_law_210 : decode cL_law 210 = .ok (.iconst 2, 1) := by decide +kernel
theorem dL_law_211 : decode cL_law 211 = .ok (.iadd, 1) := by decide +kernel
theorem dL_law_212 : decode cL_law 212 = .ok (.iaload, 1) := by decide +kernel
theorem dL_law_213 : decode cL_law 213 = .ok (.invokevirtual 27, 3) := by decide +kernel
theorem dL_law_216 : decode cL_law 216 = .ok (.if_icmp .eq 219, 3) := by decide +kernel
theorem dL_law_219 : decode cL_law 219 = .ok (.iconst 0, 1) := by decide +kernel
theorem dL_law_220 : decode cL_law 220 = .ok (.ireturn, 1) := by decide +kernel
theorem dL_law_221 : decode cL_law 221 = .ok (.aload_n 1, 1) := by decide +kernel
theorem dL_law_222 : decode cL_law 222 = .ok (.aload_n 0, 1) := by decide +kernel
theorem dL_law_223 : decode cL_law 223 = .ok (.iload_n 3, 1) := by decide +kernel
theorem dL_law_224 : decode cL_law 224 = .ok (.iconst 1, 1) := by decide +kernel
theorem dL_law_225 : decode cL_law 225 = .ok (.iadd, 1) := by decide +kernel
theorem dL_law_226 : decode cL_law 226 = .ok (.iaload, 1) := by decide +kernel
theorem dL_law_227 : decode cL_law 227 = .ok (.aload_n 0, 1) := by decide +kernel
theorem dL_law_228 : decode cL_law 228 = .ok (.iload_n 3, 1) := by decide +kernel
theorem dL_law_229 : decode cL_law 229 = .ok (.iconst 2, 1) := by decide +kernel
theorem dL_law_230 : decode cL_law 230 = .ok (.iadd, 1) := by decide +kernel
theorem dL_law_231 : decode cL_law 231 = .ok (.iaload, 1) := by decide +kernel
theorem dL_law_232 : decode cL_law 232 = .ok (.invokevirtual 28, 3) := by decide +kernel
theorem dL_law_235 : decode cL_law 235 = .ok (.aload_n 2, 1) := by decide +kernel
theorem dL_law_236 : decode cL_law 236 = .ok (.aload_n 0, 1) := by decide +kernel
theorem dL_law_237 : decode cL_law 237 = .ok (.iload_n 3, 1) := by decide +kernel
theorem dL_law_238 : decode cL_law 238 = .ok (.iconst 1, 1) := by decide +kernel
theorem dL_law_239 : decode cL_law 239 = .ok (.iadd, 1) := by decide +kernel
theorem dL_law_240 : decode cL_law 240 = .ok (.iaload, 1) := by decide +kernel
theorem dL_law_241 : decode cL_law 241 = .ok (.aload_n 0, 1) := by decide +kernel
theorem dL_law_242 : decode cL_law 242 = .ok (.iload_n 3, 1) := by decide +kernel
theorem dL_law_243 : decode cL_law 243 = .ok (.iconst 2, 1) := by decide +kernel
theorem dL_law_244 : decode cL_law 244 = .ok (.iadd, 1) := by decide +kernel
theorem dL_law_245 : decode cL_law 245 = .ok (.iaload, 1) := by decide +kernel
theorem dL_law_246 : decode cL_law 246 = .ok (.invokevirtual 31, 3) := by decide +kernel
theorem dL_law_249 : decode cL_law 249 = .ok (.if_icmp .eq 186, 3) := by decide +kernel
theorem dL_law_252 : decode cL_law 252 = .ok (.iconst 0, 1) := by decide +kernel
theorem dL_law_253 : decode cL_law 253 = .ok (.ireturn, 1) := by decide +kernel
theorem dL_law_254 : decode cL_law 254 = .ok (.aload_n 1, 1) := by decide +kernel
theorem dL_law_255 : decode cL_law 255 = .ok (.aload_n 0, 1) := by decide +kernel
theorem dL_law_256 : decode cL_law 256 = .ok (.iload_n 3, 1) := by decide +kernel
theorem dL_law_257 : decode cL_law 257 = .ok (.iconst 1, 1) := by decide +kernel
theorem dL_law_258 : decode cL_law 258 = .ok (.iadd, 1) := by decide +kernel
theorem dL_law_259 : decode cL_law 259 = .ok (.iaload, 1) := by decide +kernel
theorem dL_law_260 : decode cL_law 260 = .ok (.aload_n 0, 1) := by decide +kernel
theorem dL_law_261 : decode cL_law 261 = .ok (.iload_n 3, 1) := by decide +kernel
theorem dL_law_262 : decode cL_law 262 = .ok (.iconst 2, 1) := by decide +kernel
theorem dL_law_263 : decode cL_law 263 = .ok (.iadd, 1) := by decide +kernel
theorem dL_law_264 : decode cL_law 264 = .ok (.iaload, 1) := by decide +kernel
theorem dL_law_265 : decode cL_law 265 = .ok (.invokevirtual 32, 3) := by decide +kernel
theorem dL_law_268 : decode cL_law 268 = .ok (.aload_n 2, 1) := by decide +kernel
theorem dL_law_269 : decode cL_law 269 = .ok (.aload_n 0, 1) := by decide +kernel
theorem dL_law_270 : decode cL_law 270 = .ok (.iload_n 3, 1) := by decide +kernel
theorem dL_law_271 : decode cL_law 271 = .ok (.iconst 1, 1) := by decide +kernel
theorem dL_law_272 : decode cL_law 272 = .ok (.iadd, 1) := by decide +kernel
theorem dL_law_273 : decode cL_law 273 = .ok (.iaload, 1) := by decide +kernel
theorem dL_law_274 : decode cL_law 274 = .ok (.aload_n 0, 1) := by decide +kernel
theorem dL_law_275 : decode cL_law 275 = .ok (.iload_n 3, 1) := by decide +kernel
theorem dL_law_276 : decode cL_law 276 = .ok (.iconst 2, 1) := by decide +kernel
theorem dL_law_277 : decode cL_law 277 = .ok (.iadd, 1) := by decide +kernel
theorem dL_law_278 : decode cL_law 278 = .ok (.iaload, 1) := by decide +kernel
theorem dL_law_279 : decode cL_law 279 = .ok (.invokevirtual 35, 3) := by decide +kernel
theorem dL_law_282 : decode cL_law 282 = .ok (.if_icmp .eq 153, 3) := by decide +kernel
theorem dL_law_285 : decode cL_law 285 = .ok (.iconst 0, 1) := by decide +kernel
theorem dL_law_286 : decode cL_law 286 = .ok (.ireturn, 1) := by decide +kernel
theorem dL_law_287 : decode cL_law 287 = .ok (.aload_n 1, 1) := by decide +kernel
theorem dL_law_288 : decode cL_law 288 = .ok (.aload_n 0, 1) := by decide +kernel
theorem dL_law_289 : decode cL_law 289 = .ok (.iload_n 3, 1) := by decide +kernel
theorem dL_law_290 : decode cL_law 290 = .ok (.iconst 1, 1) := by decide +kernel
theorem dL_law_291 : decode cL_law 291 = .ok (.iadd, 1) := by decide +kernel
theorem dL_law_292 : decode cL_law 292 = .ok (.iaload, 1) := by decide +kernel
theorem dL_law_293 : decode cL_law 293 = .ok (.invokevirtual 36, 3) := by decide +kernel
theorem dL_law_296 : decode cL_law 296 = .ok (.aload_n 2, 1) := by decide +kernel
theorem dL_law_297 : decode cL_law 297 = .ok (.aload_n 0, 1) := by decide +kernel
theorem dL_law_298 : decode cL_law 298 = .ok (.iload_n 3, 1) := by decide +kernel
theorem dL_law_299 : decode cL_law 299 = .ok (.iconst 1, 1) := by decide +kernel
theorem dL_law_300 : decode cL_law 300 = .ok (.iadd, 1) := by decide +kernel
theorem dL_law_301 : decode cL_law 301 = .ok (.iaload, 1) := by decide +kernel
theorem dL_law_302 : decode cL_law 302 = .ok (.invokevirtual 40, 3) := by decide +kernel
theorem dL_law_305 : decode cL_law 305 = .ok (.if_icmp .eq 130, 3) := by decide +kernel
theorem dL_law_308 : decode cL_law 308 = .ok (.iconst 0, 1) := by decide +kernel
theorem dL_law_309 : decode cL_law 309 = .ok (.ireturn, 1) := by decide +kernel
theorem dL_law_310 : decode cL_law 310 = .ok (.aload_n 1, 1) := by decide +kernel
theorem dL_law_311 : decode cL_law 311 = .ok (.aload_n 0, 1) := by decide +kernel
theorem dL_law_312 : decode cL_law 312 = .ok (.iload_n 3, 1) := by decide +kernel
theorem dL_law_313 : decode cL_law 313 = .ok (.iconst 1, 1) := by decide +kernel
theorem dL_law_314 : decode cL_law 314 = .ok (.iadd, 1) := by decide +kernel
theorem dL_law_315 : decode cL_law 315 = .ok (.iaload, 1) := by decide +kernel
theorem dL_law_316 : decode cL_law 316 = .ok (.invokevirtual 41, 3) := by decide +kernel
theorem dL_law_319 : decode cL_law 319 = .ok (.aload_n 2, 1) := by decide +kernel
theorem dL_law_320 : decode cL_law 320 = .ok (.aload_n 0, 1) := by decide +kernel
theorem dL_law_321 : decode cL_law 321 = .ok (.iload_n 3, 1) := by decide +kernel
theorem dL_law_322 : decode cL_law 322 = .ok (.iconst 1, 1) := by decide +kernel
theorem dL_law_323 : decode cL_law 323 = .ok (.iadd, 1) := by decide +kernel
theorem dL_law_324 : decode cL_law 324 = .ok (.iaload, 1) := by decide +kernel
theorem dL_law_325 : decode cL_law 325 = .ok (.invokevirtual 44, 3) := by decide +kernel
theorem dL_law_328 : decode cL_law 328 = .ok (.if_icmp .eq 107, 3) := by decide +kernel
theorem dL_law_331 : decode cL_law 331 = .ok (.iconst 0, 1) := by decide +kernel
theorem dL_law_332 : decode cL_law 332 = .ok (.ireturn, 1) := by decide +kernel
theorem dL_law_333 : decode cL_law 333 = .ok (.aload_n 1, 1) := by decide +kernel
theorem dL_law_334 : decode cL_law 334 = .ok (.aload_n 0, 1) := by decide +kernel
theorem dL_law_335 : decode cL_law 335 = .ok (.iload_n 3, 1) := by decide +kernel
theorem dL_law_336 : decode cL_law 336 = .ok (.iconst 1, 1) := by decide +kernel
theorem dL_law_337 : decode cL_law 337 = .ok (.iadd, 1) := by decide +kernel
theorem dL_law_338 : decode cL_law 338 = .ok (.iaload, 1) := by decide +kernel
theorem dL_law_339 : decode cL_law 339 = .ok (.invokevirtual 45, 3) := by decide +kernel
theorem dL_law_342 : decode cL_law 342 = .ok (.aload_n 2, 1) := by decide +kernel
theorem dL_law_343 : decode cL_law 343 = .ok (.aload_n 0, 1) := by decide +kernel
theorem dL_law_344 : decode cL_law 344 = .ok (.iload_n 3, 1) := by decide +kernel
theorem dL_law_345 : decode cL_law 345 = .ok (.iconst 1, 1) := by decide +kernel
theorem dL_law_346 : decode cL_law 346 = .ok (.iadd, 1) := by decide +kernel
theorem dL_law_347 : decode cL_law 347 = .ok (.iaload, 1) := by decide +kernel
theorem dL_law_348 : decode cL_law 348 = .ok (.invokevirtual 48, 3) := by decide +kernel
theorem dL_law_351 : decode cL_law 351 = .ok (.if_icmp .eq 84, 3) := by decide +kernel
theorem dL_law_354 : decode cL_law 354 = .ok (.iconst 0, 1) := by decide +kernel
theorem dL_law_355 : decode cL_law 355 = .ok (.ireturn, 1) := by decide +kernel
theorem dL_law_356 : decode cL_law 356 = .ok (.aload_n 1, 1) := by decide +kernel
theorem dL_law_357 : decode cL_law 357 = .ok (.aload_n 0, 1) := by decide +kernel
theorem dL_law_358 : decode cL_law 358 = .ok (.iload_n 3, 1) := by decide +kernel
theorem dL_law_359 : decode cL_law 359 = .ok (.iconst 1, 1) := by decide +kernel
theorem dL_law_360 : decode cL_law 360 = .ok (.iadd, 1) := by decide +kernel
theorem dL_law_361 : decode cL_law 361 = .ok (.iaload, 1) := by decide +kernel
theorem dL_law_362 : decode cL_law 362 = .ok (.invokevirtual 49, 3) := by decide +kernel
theorem dL_law_365 : decode cL_law 365 = .ok (.aload_n 2, 1) := by decide +kernel
theorem dL_law_366 : decode cL_law 366 = .ok (.aload_n 0, 1) := by decide +kernel
theorem dL_law_367 : decode cL_law 367 = .ok (.iload_n 3, 1) := by decide +kernel
theorem dL_law_368 : decode cL_law 368 = .ok (.iconst 1, 1) := by decide +kernel
theorem dL_law_369 : decode cL_law 369 = .ok (.iadd, 1) := by decide +kernel
theorem dL_law_370 : decode cL_law 370 = .ok (.iaload, 1) := by decide +kernel
theorem dL_law_371 : decode cL_law 371 = .ok (.invokevirtual 52, 3) := by decide +kernel
theorem dL_law_374 : decode cL_law 374 = .ok (.if_icmp .eq 61, 3) := by decide +kernel
theorem dL_law_377 : decode cL_law 377 = .ok (.iconst 0, 1) := by decide +kernel
theorem dL_law_378 : decode cL_law 378 = .ok (.ireturn, 1) := by decide +kernel
theorem dL_law_379 : decode cL_law 379 = .ok (.aload_n 1, 1) := by decide +kernel
theorem dL_law_380 : decode cL_law 380 = .ok (.aload_n 0, 1) := by decide +kernel
theorem dL_law_381 : decode cL_law 381 = .ok (.iload_n 3, 1) := by decide +kernel
theorem dL_law_382 : decode cL_law 382 = .ok (.iconst 1, 1) := by decide +kernel
theorem dL_law_383 : decode cL_law 383 = .ok (.iadd, 1) := by decide +kernel
theorem dL_law_384 : decode cL_law 384 = .ok (.iaload, 1) := by decide +kernel
theorem dL_law_385 : decode cL_law 385 = .ok (.aload_n 0, 1) := by decide +kernel
theorem dL_law_386 : decode cL_law 386 = .ok (.iload_n 3, 1) := by decide +kernel
theorem dL_law_387 : decode cL_law 387 = .ok (.iconst 2, 1) := by decide +kernel
theorem dL_law_388 : decode cL_law 388 = .ok (.iadd, 1) := by decide +kernel
theorem dL_law_389 : decode cL_law 389 = .ok (.iaload, 1) := by decide +kernel
theorem dL_law_390 : decode cL_law 390 = .ok (.invokevirtual 53, 3) := by decide +kernel
theorem dL_law_393 : decode cL_law 393 = .ok (.aload_n 2, 1) := by decide +kernel
theorem dL_law_394 : decode cL_law 394 = .ok (.aload_n 0, 1) := by decide +kernel
theorem dL_law_395 : decode cL_law 395 = .ok (.iload_n 3, 1) := by decide +kernel
theorem dL_law_396 : decode cL_law 396 = .ok (.iconst 1, 1) := by decide +kernel
theorem dL_law_397 : decode cL_law 397 = .ok (.iadd, 1) := by decide +kernel
theorem dL_law_398 : decode cL_law 398 = .ok (.iaload, 1) := by decide +kernel
theorem dL_law_399 : decode cL_law 399 = .ok (.aload_n 0, 1) := by decide +kernel
theorem dL_law_400 : decode cL_law 400 = .ok (.iload_n 3, 1) := by decide +kernel
theorem dL_law_401 : decode cL_law 401 = .ok (.iconst 2, 1) := by decide +kernel
theorem dL_law_402 : decode cL_law 402 = .ok (.iadd, 1) := by decide +kernel
theorem dL_law_403 : decode cL_law 403 = .ok (.iaload, 1) := by decide +kernel
theorem dL_law_404 : decode cL_law 404 = .ok (.invokevirtual 57, 3) := by decide +kernel
theorem dL_law_407 : decode cL_law 407 = .ok (.if_icmp .eq 28, 3) := by decide +kernel
theorem dL_law_410 : decode cL_law 410 = .ok (.iconst 0, 1) := by decide +kernel
theorem dL_law_411 : decode cL_law 411 = .ok (.ireturn, 1) := by decide +kernel
theorem dL_law_412 : decode cL_law 412 = .ok (.aload_n 1, 1) := by decide +kernel
theorem dL_law_413 : decode cL_law 413 = .ok (.aload_n 0, 1) := by decide +kernel
theorem dL_law_414 : decode cL_law 414 = .ok (.iload_n 3, 1) := by decide +kernel
theorem dL_law_415 : decode cL_law 415 = .ok (.iconst 1, 1) := by decide +kernel
theorem dL_law_416 : decode cL_law 416 = .ok (.iadd, 1) := by decide +kernel
theorem dL_law_417 : decode cL_law 417 = .ok (.iaload, 1) := by decide +kernel
theorem dL_law_418 : decode cL_law 418 = .ok (.invokevirtual 58, 3) := by decide +kernel
theorem dL_law_421 : decode cL_law 421 = .ok (.aload_n 2, 1) := by decide +kernel
theorem dL_law_422 : decode cL_law 422 = .ok (.aload_n 0, 1) := by decide +kernel
theorem dL_law_423 : decode cL_law 423 = .ok (.iload_n 3, 1) := by decide +kernel
theorem dL_law_424 : decode cL_law 424 = .ok (.iconst 1, 1) := by decide +kernel
theorem dL_law_425 : decode cL_law 425 = .ok (.iadd, 1) := by decide +kernel
theorem dL_law_426 : decode cL_law 426 = .ok (.iaload, 1) := by decide +kernel
theorem dL_law_427 : decode cL_law 427 = .ok (.invokevirtual 61, 3) := by decide +kernel
theorem dL_law_430 : decode cL_law 430 = .ok (.if_icmp .eq 5, 3) := by decide +kernel
theorem dL_law_433 : decode cL_law 433 = .ok (.iconst 0, 1) := by decide +kernel
theorem dL_law_434 : decode cL_law 434 = .ok (.ireturn, 1) := by decide +kernel
theorem dL_law_435 : decode cL_law 435 = .ok (.iinc 3 5, 3) := by decide +kernel
theorem dL_law_438 : decode cL_law 438 = .ok (.goto (-420), 3) := by decide +kernel
theorem dL_law_441 : decode cL_law 441 = .ok (.iconst 1, 1) := by decide +kernel
theorem dL_law_442 : decode cL_law 442 = .ok (.ireturn, 1) := by decide +kernel
end
section
set_option maxRecDepth 100000
/-! pure states: σ k i is place i of field k (a plain field: place 0) -/
abbrev St : Type := Nat → Nat → Int32
def su (σ : St) (k i : Nat) (v : Int32) : St := fun k' => if k' = k then upd (σ k) i v else σ k'
theorem su_app (σ : St) (k i : Nat) (v : Int32) (k' i' : Nat) : su σ k i v k' i' = if k' = k then (if i' = i then v else σ k i') else σ k' i' := by
  unfold su
  by_cases h : k' = k
  · rw [if_pos h, if_pos h]; rfl
  · rw [if_neg h, if_neg h]
theorem su_ne {σ : St} {k i : Nat} {v : Int32} {k' : Nat} (h : k' ≠ k) : su σ k i v k' = σ k' := if_neg h
theorem su_eq {σ : St} {k i : Nat} {v : Int32} : su σ k i v k i = v := by rw [su_app]; simp
abbrev vwCl : List vw_C := [(RX0, TX0, 17), (RX1, TX1, 12)]
/-- what a walk has all along: the machine, its code, its class, the tables' words, the classes -/
def cx (own : String) (p : Program) (s : State) (m : MethodId) (args : Array Value) (c : Code) (cc : ByteArray) (nL : Nat) (dC : Nat → ClassId) (dI : Nat → Nat → Nat) (d : ClassId) : Prop := CallFix p m c cc nL s args lw_all own ∧ va_K (dC, dI) vwCl [(d, .int)] s
section XT
variable {p : Program} {l : Launch} {e : Env} {R : Room} {s : State} {m : MethodId} {args : Array Value} {below : List Frame} {meth : Method} {c : Code} {H : Heap} {locs : List Loc} {cells slots : Nat} {Q : State → Prop}
theorem x_top {pc : Nat} {ls : Array Slot} {rest : List Value} {x y : Int32} (h : x = y) (k : W p l e R s m args below meth c H locs cells slots Q (F0 m pc ls (.int y :: rest))) : W p l e R s m args below meth c H locs cells slots Q (F0 m pc ls (.int x :: rest)) := by
  subst h
  exact k
end XT
/-! ===== class 0 ===== -/
def fl0 : Nat → Nat
  | 0 => 3
  | 1 => 24
  | 2 => 24
  | 3 => 24
  | 4 => 24
  | 6 => 27
  | 7 => 4
  | 8 => 4
  | 9 => 4
  | 10 => 4
  | 11 => 16
  | 12 => 16
  | 13 => 64
  | 16 => 4
  | _ => 0
theorem fl0_le (k : Nat) : fl0 k ≤ 64 := by
  unfold fl0
  split <;> omega
def ks0 : List Nat := [0, 1, 2, 3, 4, 6, 7, 8, 9, 10, 11, 12, 13, 16]
def fv0 (q : Nat → Nat) (σ : St) : Nat → Value
  | 5 => .int (σ 5 0)
  | 14 => .int (σ 14 0)
  | 15 => .int (σ 15 0)
  | k => .ref (q k)
def wc0 (a : Nat) (q : Nat → Nat) (d : ClassId) (σ : St) : va_W := (a, .inr (0, (List.range 17).map (fv0 q σ))) :: ks0.map (fun k => (q k, .inl (d, fl0 k, .inl (σ k))))
theorem wc0_fld {q : Nat → Nat} {σ : St} {k : Nat} (hk : k < 17) : ((List.range 17).map (fv0 q σ))[k]? = some (fv0 q σ k) := by
  rw [List.getElem?_map, List.getElem?_range hk]
  rfl
theorem wc0_arr {a : Nat} {q : Nat → Nat} {d : ClassId} {σ : St} {i k : Nat} (h : ks0[i]? = some k) : (wc0 a q d σ)[i + 1]? = some (q k, .inl (d, fl0 k, .inl (σ k))) := by
  show (ks0.map (fun k => ((q k, .inl (d, fl0 k, .inl (σ k))) : Nat × va_E)))[i]? = _
  rw [List.getElem?_map, h]
  rfl
theorem wc0_ast {a : Nat} {q : Nat → Nat} {d : ClassId} {σ : St} {j : Nat} {x : Int32} : ∀ {i k : Nat}, ks0[i]? = some k → (wc0 a q d σ).set (i + 1) (q k, .inl (d, fl0 k, .inl (upd (σ k) j x))) = wc0 a q d (su σ k j x)
  | 0, k, h => by cases h; rfl
  | 1, k, h => by cases h; rfl
  | 2, k, h => by cases h; rfl
  | 3, k, h => by cases h; rfl
  | 4, k, h => by cases h; rfl
  | 5, k, h => by cases h; rfl
  | 6, k, h => by cases h; rfl
  | 7, k, h => by cases h; rfl
  | 8, k, h => by cases h; rfl
  | 9, k, h => by cases h; rfl
  | 10, k, h => by cases h; rfl
  | 11, k, h => by cases h; rfl
  | 12, k, h => by cases h; rfl
  | 13, k, h => by cases h; rfl
  | n + 14, k, h => by simp [ks0] at h
/-- the object's world, and what has changed since H0 -/
def wd0 (dC : Nat → ClassId) (dI : Nat → Nat → Nat) (A : Nat → Prop) (H0 : Heap) (a : Nat) (q : Nat → Nat) (d : ClassId) (σ : St) (H : Heap) (locs : List Loc) : Prop := va_P (dC, dI) vwCl (wc0 a q d σ) H ∧ va_D A (wc0 a q d σ) ∧ va_S A H0 H locs
def Bd0 (dC : Nat → ClassId) (dI : Nat → Nat → Nat) (A : Nat → Prop) (a : Nat) (q : Nat → Nat) (d : ClassId) (u : St) (t : State) : Prop := va_P (dC, dI) vwCl (wc0 a q d u) t.heap ∧ va_K (dC, dI) vwCl [(d, .int)] t ∧ va_D A (wc0 a q d u)
def Pr0 (dC : Nat → ClassId) (dI : Nat → Nat → Nat) (a : Nat) (q : Nat → Nat) (d : ClassId) (sz : Nat) (as : List Value) (σ : St) : Array Value → State → Prop := va_Pc (.ref a :: as) (fun U => U.heap.size = sz ∧ va_P (dC, dI) vwCl (wc0 a q d σ) U.heap ∧ va_K (dC, dI) vwCl [(d, .int)] U ∧ va_D (fun _ => True) (wc0 a q d σ))
/-- a contract of a method without an answer: from σ it comes to a state with post -/
def Cv0 (l : Launch) (y : MethodName) (b : ByteArray) (L fr lo : Nat) (as : List Value) (σ : St) (post : St → Prop) : Prop := ∀ (dC : Nat → ClassId) (dI : Nat → Nat → Nat) (a : Nat) (q : Nat → Nat) (d : ClassId) (sz : Nat), Met l y (ws_ y b L none) ({ frames := fr, cells := 0, slots := 0, locals := lo }) (Pr0 dC dI a q d sz as σ) (va_Qv post (Bd0 dC dI (va_A (wc0 a q d σ) sz) a q d) (va_A (wc0 a q d σ) sz)) 0 0 (va_A (wc0 a q d σ) sz)
/-- a contract of a method that answers an int or a boolean -/
def Ci0 (l : Launch) (y : MethodName) (b : ByteArray) (L : Nat) (ty : FieldType) (fr lo : Nat) (as : List Value) (σ : St) (post : Int32 → St → Prop) : Prop := ∀ (dC : Nat → ClassId) (dI : Nat → Nat → Nat) (a : Nat) (q : Nat → Nat) (d : ClassId) (sz : Nat), Met l y (ws_ y b L (some ty)) ({ frames := fr, cells := 0, slots := 0, locals := lo }) (Pr0 dC dI a q d sz as σ) (va_Qi post (Bd0 dC dI (va_A (wc0 a q d σ) sz) a q d) (va_A (wc0 a q d σ) sz)) 0 0 (va_A (wc0 a q d σ) sz)
section RW0
variable {p : Program} {l : Launch} {e : Env} {R : Room} {s : State} {m : MethodId} {args : Array Value} {below : List Frame} {meth : Method} {c : Code} {H : Heap} {locs : List Loc} {cells slots : Nat} {Q : State → Prop}
variable {cc : ByteArray} {pc nL : Nat} {ls : Array Slot} {rest st0 : List Value} {dC : Nat → ClassId} {dI : Nat → Nat → Nat} {A : Nat → Prop} {H0 : Heap} {a : Nat} {q : Nat → Nat} {d : ClassId} {σ : St}
theorem r0_get (X : cx RX0 p s m args c cc nL dC dI d) (hw : wd0 dC dI A H0 a q d σ H locs) (k : Nat) (hk : k < 17) {idx : Nat} (hl : Cond.fieldLink RX0 idx RX0 (TX0 k).2.1 (TX0 k).2.2.1 ∈ lw_all) (hT : (TX0 k).1 = RX0) {v : Value} (hv : fv0 q σ k = v) (hdg : decode cc pc = .ok (.getfield idx, 3))
    (kk : W p l e R s m args below meth c H locs cells slots Q (F0 m (pc + 3) ls (v :: rest))) : W p l e R s m args below meth c H locs cells slots Q (F0 m pc ls (.ref a :: rest)) :=
  va_get (D := (dC, dI)) (ci := 0) (C := RX0) (T := TX0) (N := 17) X.1.1 X.1.2.1 X.1.2.2.2.2 in_X0 X.1.2.2.2.1 X.2 hw.1 0 rfl rfl k hk (X.1.2.2.2.2 _ hl) (fun x h9 => by rw [hT] at h9; exact h9) (by rw [wc0_fld hk, hv]) hdg kk
theorem r0_ald (X : cx RX0 p s m args c cc nL dC dI d) (hw : wd0 dC dI A H0 a q d σ H locs) (i : Nat) {k : Nat} (hi : ks0[i]? = some k) {x : Int32} (j : Nat) (hx : x = nI j) (hj : j < fl0 k) (hdg : decode cc pc = .ok (.iaload, 1))
    (kk : W p l e R s m args below meth c H locs cells slots Q (F0 m (pc + 1) ls (.int (σ k j) :: rest))) : W p l e R s m args below meth c H locs cells slots Q (F0 m pc ls (.int x :: .ref (q k) :: rest)) := by
  subst hx
  have h64 := fl0_le k
  refine va_iald X.1.1 X.1.2.1 X.2 hw.1 (i + 1) 0 (wc0_arr hi) rfl (vp_in_nI hj (by omega)) hdg ?_
  rw [nI_clamp (by omega)]
  exact kk
theorem r0_ast (X : cx RX0 p s m args c cc nL dC dI d) (hw : wd0 dC dI A H0 a q d σ H locs) (i : Nat) {k : Nat} (hi : ks0[i]? = some k) {x v : Int32} (j : Nat) (hx : x = nI j) (hj : j < fl0 k) (hdg : decode cc pc = .ok (.iastore, 1))
    (kk : ∀ (H : Heap) (locs : List Loc), wd0 dC dI A H0 a q d (su σ k j v) H locs → W p l e R s m args below meth c H locs cells slots Q (F0 m (pc + 1) ls rest)) : W p l e R s m args below meth c H locs cells slots Q (F0 m pc ls (.int v :: .int x :: .ref (q k) :: rest)) := by
  subst hx
  have h64 := fl0_le k
  refine va_iast X.1.1 X.1.2.1 X.2 hw.1 hw.2.1 hw.2.2 (i + 1) 0 (wc0_arr hi) rfl (vp_in_nI hj (by omega)) hdg (fun H1 locs1 hP hD hS => ?_)
  rw [nI_clamp (by omega), wc0_ast hi] at hP hD
  exact kk H1 locs1 ⟨hP, hD, hS⟩
theorem wd0_free (hA : ∀ x, s.heap.size ≤ x → A x) (hw : wd0 dC dI A s.heap a q d σ H locs) : ∀ x, va_A (wc0 a q d σ) H.size x → A x := by
  intro x h
  rcases h with ⟨k, e', h⟩ | h
  · exact hw.2.1.2 k _ h
  · exact hA x (Nat.le_trans hw.2.2.1 h)
theorem Pr0_blind {sz : Nat} {as : List Value} : FrameBlind (Pr0 dC dI a q d sz as σ) := by
  intro a' U g mk h
  obtain ⟨q0, q1, qP, qK, qD⟩ := h
  exact ⟨q0, q1, qP, va_K.moved (u := U) (U := U.calling g mk a') (Vm.Alike.refl U.vm) qK, qD⟩
theorem Pr0_here {as : List Value} {U : State} (hK : va_K (dC, dI) vwCl [(d, .int)] s) (hw : wd0 dC dI A H0 a q d σ H locs) (hU : U.heap = H) (hW : s.WarmedH U.vm) : Pr0 dC dI a q d H.size as σ (Value.ref a :: as).toArray U := by
  refine ⟨rfl, by rw [hU], by rw [hU]; exact hw.1, va_K.moved hW.alike hK, hw.2.1.weaken (fun _ _ _ _ => trivial)⟩
theorem r0_callv {own : String} {y : MethodName} {b : ByteArray} {L fr lo idx : Nat} {as : List Value} {post : St → Prop} (n : Nat) (X : cx own p s m args c cc nL dC dI d) (hA : ∀ x, s.heap.size ≤ x → A x) (hw : wd0 dC dI A s.heap a q d σ H locs) (hM : Cv0 l y b L fr lo as σ post) (hg : GoodIn lw_all (wsV own idx RX0 y (ws_ y b L none)))
    (hd : y.cls = RX0 ∧ y.cls ≠ "java/lang/invoke/MethodHandle" ∧ y.cls ≠ "java/lang/invoke/VarHandle" ∧ (parseMethodDescriptor y.desc).map (fun d => d.parameters.length) = some n) (hn : as.length = n) (hR : fr + 1 ≤ R.frames ∧ 8 + (L + 11) + lo ≤ R.locals) (hls : ls.size = nL) (hst : st0 = as.reverse ++ .ref a :: rest) (h8 : (rest.map fun v => v.category).sum ≤ 8) (hdg : decode cc pc = .ok (.invokevirtual idx, 3)) (hcs : cells ≤ R.cells ∧ slots ≤ R.slots)
    (kk : ∀ (u : St) (H1 : Heap) (locs : List Loc), post u → wd0 dC dI A s.heap a q d u H1 locs → H.size ≤ H1.size → (∀ x : Nat, x < H.size → ¬ va_A (wc0 a q d σ) H.size x → H1[x]? = H[x]?) → W p l e R s m args below meth c H1 locs cells slots Q (F0 m (pc + 3) ls rest)) : W p l e R s m args below meth c H locs cells slots Q (F0 m pc ls st0) := by
  have hFc := wd0_free hA hw
  refine va_callv (va_runV (As := as) (rest := rest) X.1 (hM dC dI a q d H.size) (cwV n X.1.2.2.2.2 hg rfl rfl rfl hd hR) ⟨Pr0_blind, va_recv X.2 hw.1 (ci := 0) (q0 := 0) rfl rfl, fun U hU hW => Pr0_here X.2 hw hU hW⟩ rfl hn hls hst (lv_room h8) hdg hcs) hw.2.2 (fun q _ h => hFc q h) hFc (fun u t H1 locs1 ht hvm hpost hB hz hk hS1 => ?_)
  obtain ⟨hP1, hK1, hD1⟩ := hB
  rw [ht] at hP1
  exact kk u H1 locs1 hpost ⟨hP1, hD1.weaken (fun k q _ h => hFc q.1 h), hS1⟩ hz hk
theorem r0_calli {own : String} {y : MethodName} {b : ByteArray} {L fr lo idx : Nat} {ty : FieldType} {as : List Value} {post : Int32 → St → Prop} (n : Nat) (X : cx own p s m args c cc nL dC dI d) (hA : ∀ x, s.heap.size ≤ x → A x) (hw : wd0 dC dI A s.heap a q d σ H locs) (hM : Ci0 l y b L ty fr lo as σ post) (hg : GoodIn lw_all (wsV own idx RX0 y (ws_ y b L (some ty))))
    (hd : y.cls = RX0 ∧ y.cls ≠ "java/lang/invoke/MethodHandle" ∧ y.cls ≠ "java/lang/invoke/VarHandle" ∧ (parseMethodDescriptor y.desc).map (fun d => d.parameters.length) = some n) (hn : as.length = n) (hR : fr + 1 ≤ R.frames ∧ 8 + (L + 11) + lo ≤ R.locals) (hls : ls.size = nL) (hst : st0 = as.reverse ++ .ref a :: rest) (h8 : (rest.map fun v => v.category).sum ≤ 8) (hdg : decode cc pc = .ok (.invokevirtual idx, 3)) (hcs : cells ≤ R.cells ∧ slots ≤ R.slots)
    (kk : ∀ (r : Int32) (u : St) (H1 : Heap) (locs : List Loc), post r u → wd0 dC dI A s.heap a q d u H1 locs → H.size ≤ H1.size → (∀ x : Nat, x < H.size → ¬ va_A (wc0 a q d σ) H.size x → H1[x]? = H[x]?) → W p l e R s m args below meth c H1 locs cells slots Q (F0 m (pc + 3) ls (.int r :: rest))) : W p l e R s m args below meth c H locs cells slots Q (F0 m pc ls st0) := by
  have hFc := wd0_free hA hw
  refine va_calli (va_runV (As := as) (rest := rest) X.1 (hM dC dI a q d H.size) (cwV n X.1.2.2.2.2 hg rfl rfl rfl hd hR) ⟨Pr0_blind, va_recv X.2 hw.1 (ci := 0) (q0 := 0) rfl rfl, fun U hU hW => Pr0_here X.2 hw hU hW⟩ rfl hn hls hst (lv_room h8) hdg hcs) hw.2.2 (fun q _ h => hFc q h) hFc (fun r u t H1 locs1 ht hvm hpost hB hz hk hS1 => ?_)
  obtain ⟨hP1, hK1, hD1⟩ := hB
  rw [ht] at hP1
  exact kk r u H1 locs1 hpost ⟨hP1, hD1.weaken (fun k q _ h => hFc q.1 h), hS1⟩ hz hk
end RW0
/-- a method's entry: Q is any aim that the method's return reaches -/
theorem e0_v {l : Launch} {y : MethodName} {b : ByteArray} {L fr lo : Nat} {as : List Value} {σ : St} {post : St → Prop} (hy : plainName y.cls = true) (hyc : y.cls = RX0) (hL : ∀ a : Nat, (lg_sl (.ref a :: as)).length ≤ L)
    (body : ∀ (p : Program) (e : Env) (R : Room) (s : State) (m : MethodId) (args : Array Value) (below : List Frame) (meth : Method) (c : Code) (Q : State → Prop) (dC : Nat → ClassId) (dI : Nat → Nat → Nat) (A : Nat → Prop) (a : Nat) (q : Nat → Nat) (d : ClassId), R = { frames := fr, cells := 0, slots := 0, locals := lo } → cx RX0 p s m args c b L dC dI d → (∀ x, s.heap.size ≤ x → A x) →
      (∀ (H : Heap) (locs : List Loc) (u : St) (pc : Nat) (ls : Array Slot), decode b pc = .ok (.return_, 1) → post u → wd0 dC dI A s.heap a q d u H locs → W p l e R s m args below meth c H locs 0 0 Q (F0 m pc ls [])) →
      ∀ ls : Array Slot, lv_has ls L (lv_args 0 (.ref a :: as)) → wd0 dC dI A s.heap a q d σ s.heap [] → W p l e R s m args below meth c s.heap [] 0 0 Q (F0 m 0 ls [])) : Cv0 l y b L fr lo as σ post := by
  intro dC dI a q d sz
  refine Met.ofW (cc := b) (maxL := L) (ret := none) hy rfl ?_
  intro p e s m args below meth c s₁ B hml hv
  obtain ⟨rfl, hsz, hP, hK, hD0⟩ := hv
  have hts := atoms_spec (ws := ws_ y b L none) B.pre
  have hts : ∀ w ∈ lw_all, w.before _ s = true := fun w h => hts w (List.mem_cons_of_mem _ h)
  have hown : s.vm.findClass RX0 = some m.cls := by rw [← hyc]; exact findClass_of_methodNamed B.named
  subst hsz
  have hD := hD0.self (sz := s.heap.size)
  have hl := lv_entry (.ref a :: as) (n := L) (hL a)
  rw [lg_entry_eq]
  exact body p e _ s m _ below meth c _ dC dI _ a q d rfl ⟨⟨B.exec, B.bytes, hml, hown, hts⟩, hK⟩ (fun x h => Or.inr h) (fun H locs u pc ls hdg hpost hw => W.vret B.exec B.bytes B.returns (fun t ht hW => ⟨⟨u, rfl, hpost, by rw [ht]; exact hw.1, va_K.moved hW.alike hK, hw.2.1⟩, hw.2.2.F ht⟩) hw.2.2.2.2 hdg B.notSynchronized) _ hl ⟨hP, hD, va_S.rf⟩
theorem e0_i {l : Launch} {y : MethodName} {b : ByteArray} {L fr lo : Nat} {ty : FieldType} {as : List Value} {σ : St} {post : Int32 → St → Prop} (hy : plainName y.cls = true) (hyc : y.cls = RX0) (hL : ∀ a : Nat, (lg_sl (.ref a :: as)).length ≤ L)
    (body : ∀ (p : Program) (e : Env) (R : Room) (s : State) (m : MethodId) (args : Array Value) (below : List Frame) (meth : Method) (c : Code) (Q : State → Prop) (dC : Nat → ClassId) (dI : Nat → Nat → Nat) (A : Nat → Prop) (a : Nat) (q : Nat → Nat) (d : ClassId), R = { frames := fr, cells := 0, slots := 0, locals := lo } → cx RX0 p s m args c b L dC dI d → (∀ x, s.heap.size ≤ x → A x) →
      (∀ (H : Heap) (locs : List Loc) (r : Int32) (u : St) (pc : Nat) (ls : Array Slot), decode b pc = .ok (.ireturn, 1) → narrow ty (.int r) = .int r → post r u → wd0 dC dI A s.heap a q d u H locs → W p l e R s m args below meth c H locs 0 0 Q (F0 m pc ls [.int r])) →
      ∀ ls : Array Slot, lv_has ls L (lv_args 0 (.ref a :: as)) → wd0 dC dI A s.heap a q d σ s.heap [] → W p l e R s m args below meth c s.heap [] 0 0 Q (F0 m 0 ls [])) : Ci0 l y b L ty fr lo as σ post := by
  intro dC dI a q d sz
  refine Met.ofW (cc := b) (maxL := L) (ret := some ty) hy rfl ?_
  intro p e s m args below meth c s₁ B hml hv
  obtain ⟨rfl, hsz, hP, hK, hD0⟩ := hv
  have hts := atoms_spec (ws := ws_ y b L (some ty)) B.pre
  have hts : ∀ w ∈ lw_all, w.before _ s = true := fun w h => hts w (List.mem_cons_of_mem _ h)
  have hown : s.vm.findClass RX0 = some m.cls := by rw [← hyc]; exact findClass_of_methodNamed B.named
  subst hsz
  have hD := hD0.self (sz := s.heap.size)
  have hl := lv_entry (.ref a :: as) (n := L) (hL a)
  rw [lg_entry_eq]
  exact body p e _ s m _ below meth c _ dC dI _ a q d rfl ⟨⟨B.exec, B.bytes, hml, hown, hts⟩, hK⟩ (fun x h => Or.inr h) (fun H locs r u pc ls hdg hn hpost hw => W.zret B.exec B.bytes B.returns hn (fun t ht hW => ⟨⟨r, u, rfl, hpost, by rw [ht]; exact hw.1, va_K.moved hW.alike hK, hw.2.1⟩, hw.2.2.F ht⟩) hw.2.2.2.2 hdg B.notSynchronized) _ hl ⟨hP, hD, va_S.rf⟩
section PT0
variable {p : Program} {l : Launch} {e : Env} {R : Room} {s : State} {m : MethodId} {args : Array Value} {below : List Frame} {meth : Method} {c : Code} {H : Heap} {locs : List Loc} {cells slots : Nat} {Q : State → Prop}
variable {cc : ByteArray} {pc nL : Nat} {ls : Array Slot} {rest st0 : List Value} {dC : Nat → ClassId} {dI : Nat → Nat → Nat} {A : Nat → Prop} {H0 : Heap} {a : Nat} {q : Nat → Nat} {d : ClassId} {σ : St}
theorem r0_putf (X : cx RX0 p s m args c cc nL dC dI d) (hw : wd0 dC dI A H0 a q d σ H locs) {v : Int32} (hdg : decode cc pc = .ok (.putfield 67, 3))
    (kk : ∀ (H : Heap) (locs : List Loc), wd0 dC dI A H0 a q d (su σ 14 0 v) H locs → W p l e R s m args below meth c H locs cells slots Q (F0 m (pc + 3) ls rest)) : W p l e R s m args below meth c H locs cells slots Q (F0 m pc ls (.int v :: .ref a :: rest)) :=
  va_put (D := (dC, dI)) (ci := 0) (v := .int v) (ty := .int) (C := RX0) (T := TX0) (N := 17) X.1.1 X.1.2.1 X.1.2.2.2.2 in_X0 tyX0 tyX0_ok nmX0 X.1.2.2.2.1 X.2 hw.1 hw.2.1 hw.2.2 0 rfl rfl 14 (by decide) (X.1.2.2.2.2 _ q46) (fun _ h9 => h9) rfl (by decide +kernel) rfl rfl (Nat.le_of_ble_eq_true rfl) hdg (fun H1 locs1 hP hD hS => kk H1 locs1 ⟨hP, hD, hS⟩)
theorem r0_putp (X : cx RX0 p s m args c cc nL dC dI d) (hw : wd0 dC dI A H0 a q d σ H locs) {v : Int32} (hdg : decode cc pc = .ok (.putfield 71, 3))
    (kk : ∀ (H : Heap) (locs : List Loc), wd0 dC dI A H0 a q d (su σ 15 0 v) H locs → W p l e R s m args below meth c H locs cells slots Q (F0 m (pc + 3) ls rest)) : W p l e R s m args below meth c H locs cells slots Q (F0 m pc ls (.int v :: .ref a :: rest)) :=
  va_put (D := (dC, dI)) (ci := 0) (v := .int v) (ty := .int) (C := RX0) (T := TX0) (N := 17) X.1.1 X.1.2.1 X.1.2.2.2.2 in_X0 tyX0 tyX0_ok nmX0 X.1.2.2.2.1 X.2 hw.1 hw.2.1 hw.2.2 0 rfl rfl 15 (by decide) (X.1.2.2.2.2 _ q47) (fun _ h9 => h9) rfl (by decide +kernel) rfl rfl (Nat.le_of_ble_eq_true rfl) hdg (fun H1 locs1 hP hD hS => kk H1 locs1 ⟨hP, hD, hS⟩)
theorem r0_putz (X : cx RX0 p s m args c cc nL dC dI d) (hw : wd0 dC dI A H0 a q d σ H locs) {v : Int32} (hn : narrow .boolean (.int v) = .int v) (hf : fits .boolean (.int v) = true) (hdg : decode cc pc = .ok (.putfield 52, 3))
    (kk : ∀ (H : Heap) (locs : List Loc), wd0 dC dI A H0 a q d (su σ 5 0 v) H locs → W p l e R s m args below meth c H locs cells slots Q (F0 m (pc + 3) ls rest)) : W p l e R s m args below meth c H locs cells slots Q (F0 m pc ls (.int v :: .ref a :: rest)) :=
  va_put (D := (dC, dI)) (ci := 0) (v := .int v) (ty := .boolean) (C := RX0) (T := TX0) (N := 17) X.1.1 X.1.2.1 X.1.2.2.2.2 in_X0 tyX0 tyX0_ok nmX0 X.1.2.2.2.1 X.2 hw.1 hw.2.1 hw.2.2 0 rfl rfl 5 (by decide) (X.1.2.2.2.2 _ q37) (fun _ h9 => h9) rfl (by decide +kernel) hn hf (Nat.le_of_ble_eq_true rfl) hdg (fun H1 locs1 hP hD hS => kk H1 locs1 ⟨hP, hD, hS⟩)
end PT0
/-! ===== class 1 ===== -/
def fl1 : Nat → Nat
  | 0 => 3
  | 1 => 24
  | 2 => 24
  | 3 => 24
  | 4 => 4
  | 5 => 4
  | 6 => 4
  | 7 => 4
  | 8 => 16
  | 9 => 16
  | 10 => 16
  | 11 => 64
  | _ => 0
theorem fl1_le (k : Nat) : fl1 k ≤ 64 := by
  unfold fl1
  split <;> omega
def ks1 : List Nat := [0, 1, 2, 3, 4, 5, 6, 7, 8, 9, 10, 11]
def fv1 (q : Nat → Nat) (σ : St) : Nat → Value
  | k => .ref (q k)
def wc1 (a : Nat) (q : Nat → Nat) (d : ClassId) (σ : St) : va_W := (a, .inr (1, (List.range 12).map (fv1 q σ))) :: ks1.map (fun k => (q k, .inl (d, fl1 k, .inl (σ k))))
theorem wc1_fld {q : Nat → Nat} {σ : St} {k : Nat} (hk : k < 12) : ((List.range 12).map (fv1 q σ))[k]? = some (fv1 q σ k) := by
  rw [List.getElem?_map, List.getElem?_range hk]
  rfl
theorem wc1_arr {a : Nat} {q : Nat → Nat} {d : ClassId} {σ : St} {i k : Nat} (h : ks1[i]? = some k) : (wc1 a q d σ)[i + 1]? = some (q k, .inl (d, fl1 k, .inl (σ k))) := by
  show (ks1.map (fun k => ((q k, .inl (d, fl1 k, .inl (σ k))) : Nat × va_E)))[i]? = _
  rw [List.getElem?_map, h]
  rfl
theorem wc1_ast {a : Nat} {q : Nat → Nat} {d : ClassId} {σ : St} {j : Nat} {x : Int32} : ∀ {i k : Nat}, ks1[i]? = some k → (wc1 a q d σ).set (i + 1) (q k, .inl (d, fl1 k, .inl (upd (σ k) j x))) = wc1 a q d (su σ k j x)
  | 0, k, h => by cases h; rfl
  | 1, k, h => by cases h; rfl
  | 2, k, h => by cases h; rfl
  | 3, k, h => by cases h; rfl
  | 4, k, h => by cases h; rfl
  | 5, k, h => by cases h; rfl
  | 6, k, h => by cases h; rfl
  | 7, k, h => by cases h; rfl
  | 8, k, h => by cases h; rfl
  | 9, k, h => by cases h; rfl
  | 10, k, h => by cases h; rfl
  | 11, k, h => by cases h; rfl
  | n + 12, k, h => by simp [ks1] at h
/-- the object's world, and what has changed since H0 -/
def wd1 (dC : Nat → ClassId) (dI : Nat → Nat → Nat) (A : Nat → Prop) (H0 : Heap) (a : Nat) (q : Nat → Nat) (d : ClassId) (σ : St) (H : Heap) (locs : List Loc) : Prop := va_P (dC, dI) vwCl (wc1 a q d σ) H ∧ va_D A (wc1 a q d σ) ∧ va_S A H0 H locs
def Bd1 (dC : Nat → ClassId) (dI : Nat → Nat → Nat) (A : Nat → Prop) (a : Nat) (q : Nat → Nat) (d : ClassId) (u : St) (t : State) : Prop := va_P (dC, dI) vwCl (wc1 a q d u) t.heap ∧ va_K (dC, dI) vwCl [(d, .int)] t ∧ va_D A (wc1 a q d u)
def Pr1 (dC : Nat → ClassId) (dI : Nat → Nat → Nat) (a : Nat) (q : Nat → Nat) (d : ClassId) (sz : Nat) (as : List Value) (σ : St) : Array Value → State → Prop := va_Pc (.ref a :: as) (fun U => U.heap.size = sz ∧ va_P (dC, dI) vwCl (wc1 a q d σ) U.heap ∧ va_K (dC, dI) vwCl [(d, .int)] U ∧ va_D (fun _ => True) (wc1 a q d σ))
/-- a contract of a method without an answer: from σ it comes to a state with post -/
def Cv1 (l : Launch) (y : MethodName) (b : ByteArray) (L fr lo : Nat) (as : List Value) (σ : St) (post : St → Prop) : Prop := ∀ (dC : Nat → ClassId) (dI : Nat → Nat → Nat) (a : Nat) (q : Nat → Nat) (d : ClassId) (sz : Nat), Met l y (ws_ y b L none) ({ frames := fr, cells := 0, slots := 0, locals := lo }) (Pr1 dC dI a q d sz as σ) (va_Qv post (Bd1 dC dI (va_A (wc1 a q d σ) sz) a q d) (va_A (wc1 a q d σ) sz)) 0 0 (va_A (wc1 a q d σ) sz)
/-- a contract of a method that answers an int or a boolean -/
def Ci1 (l : Launch) (y : MethodName) (b : ByteArray) (L : Nat) (ty : FieldType) (fr lo : Nat) (as : List Value) (σ : St) (post : Int32 → St → Prop) : Prop := ∀ (dC : Nat → ClassId) (dI : Nat → Nat → Nat) (a : Nat) (q : Nat → Nat) (d : ClassId) (sz : Nat), Met l y (ws_ y b L (some ty)) ({ frames := fr, cells := 0, slots := 0, locals := lo }) (Pr1 dC dI a q d sz as σ) (va_Qi post (Bd1 dC dI (va_A (wc1 a q d σ) sz) a q d) (va_A (wc1 a q d σ) sz)) 0 0 (va_A (wc1 a q d σ) sz)
section RW1
variable {p : Program} {l : Launch} {e : Env} {R : Room} {s : State} {m : MethodId} {args : Array Value} {below : List Frame} {meth : Method} {c : Code} {H : Heap} {locs : List Loc} {cells slots : Nat} {Q : State → Prop}
variable {cc : ByteArray} {pc nL : Nat} {ls : Array Slot} {rest st0 : List Value} {dC : Nat → ClassId} {dI : Nat → Nat → Nat} {A : Nat → Prop} {H0 : Heap} {a : Nat} {q : Nat → Nat} {d : ClassId} {σ : St}
theorem r1_get (X : cx RX1 p s m args c cc nL dC dI d) (hw : wd1 dC dI A H0 a q d σ H locs) (k : Nat) (hk : k < 12) {idx : Nat} (hl : Cond.fieldLink RX1 idx RX1 (TX1 k).2.1 (TX1 k).2.2.1 ∈ lw_all) (hT : (TX1 k).1 = RX1) {v : Value} (hv : fv1 q σ k = v) (hdg : decode cc pc = .ok (.getfield idx, 3))
    (kk : W p l e R s m args below meth c H locs cells slots Q (F0 m (pc + 3) ls (v :: rest))) : W p l e R s m args below meth c H locs cells slots Q (F0 m pc ls (.ref a :: rest)) :=
  va_get (D := (dC, dI)) (ci := 1) (C := RX1) (T := TX1) (N := 12) X.1.1 X.1.2.1 X.1.2.2.2.2 in_X1 X.1.2.2.2.1 X.2 hw.1 0 rfl rfl k hk (X.1.2.2.2.2 _ hl) (fun x h9 => by rw [hT] at h9; exact h9) (by rw [wc1_fld hk, hv]) hdg kk
theorem r1_ald (X : cx RX1 p s m args c cc nL dC dI d) (hw : wd1 dC dI A H0 a q d σ H locs) (i : Nat) {k : Nat} (hi : ks1[i]? = some k) {x : Int32} (j : Nat) (hx : x = nI j) (hj : j < fl1 k) (hdg : decode cc pc = .ok (.iaload, 1))
    (kk : W p l e R s m args below meth c H locs cells slots Q (F0 m (pc + 1) ls (.int (σ k j) :: rest))) : W p l e R s m args below meth c H locs cells slots Q (F0 m pc ls (.int x :: .ref (q k) :: rest)) := by
  subst hx
  have h64 := fl1_le k
  refine va_iald X.1.1 X.1.2.1 X.2 hw.1 (i + 1) 0 (wc1_arr hi) rfl (vp_in_nI hj (by omega)) hdg ?_
  rw [nI_clamp (by omega)]
  exact kk
theorem r1_ast (X : cx RX1 p s m args c cc nL dC dI d) (hw : wd1 dC dI A H0 a q d σ H locs) (i : Nat) {k : Nat} (hi : ks1[i]? = some k) {x v : Int32} (j : Nat) (hx : x = nI j) (hj : j < fl1 k) (hdg : decode cc pc = .ok (.iastore, 1))
    (kk : ∀ (H : Heap) (locs : List Loc), wd1 dC dI A H0 a q d (su σ k j v) H locs → W p l e R s m args below meth c H locs cells slots Q (F0 m (pc + 1) ls rest)) : W p l e R s m args below meth c H locs cells slots Q (F0 m pc ls (.int v :: .int x :: .ref (q k) :: rest)) := by
  subst hx
  have h64 := fl1_le k
  refine va_iast X.1.1 X.1.2.1 X.2 hw.1 hw.2.1 hw.2.2 (i + 1) 0 (wc1_arr hi) rfl (vp_in_nI hj (by omega)) hdg (fun H1 locs1 hP hD hS => ?_)
  rw [nI_clamp (by omega), wc1_ast hi] at hP hD
  exact kk H1 locs1 ⟨hP, hD, hS⟩
theorem wd1_free (hA : ∀ x, s.heap.size ≤ x → A x) (hw : wd1 dC dI A s.heap a q d σ H locs) : ∀ x, va_A (wc1 a q d σ) H.size x → A x := by
  intro x h
  rcases h with ⟨k, e', h⟩ | h
  · exact hw.2.1.2 k _ h
  · exact hA x (Nat.le_trans hw.2.2.1 h)
theorem Pr1_blind {sz : Nat} {as : List Value} : FrameBlind (Pr1 dC dI a q d sz as σ) := by
  intro a' U g mk h
  obtain ⟨q0, q1, qP, qK, qD⟩ := h
  exact ⟨q0, q1, qP, va_K.moved (u := U) (U := U.calling g mk a') (Vm.Alike.refl U.vm) qK, qD⟩
theorem Pr1_here {as : List Value} {U : State} (hK : va_K (dC, dI) vwCl [(d, .int)] s) (hw : wd1 dC dI A H0 a q d σ H locs) (hU : U.heap = H) (hW : s.WarmedH U.vm) : Pr1 dC dI a q d H.size as σ (Value.ref a :: as).toArray U := by
  refine ⟨rfl, by rw [hU], by rw [hU]; exact hw.1, va_K.moved hW.alike hK, hw.2.1.weaken (fun _ _ _ _ => trivial)⟩
theorem r1_callv {own : String} {y : MethodName} {b : ByteArray} {L fr lo idx : Nat} {as : List Value} {post : St → Prop} (n : Nat) (X : cx own p s m args c cc nL dC dI d) (hA : ∀ x, s.heap.size ≤ x → A x) (hw : wd1 dC dI A s.heap a q d σ H locs) (hM : Cv1 l y b L fr lo as σ post) (hg : GoodIn lw_all (wsV own idx RX1 y (ws_ y b L none)))
    (hd : y.cls = RX1 ∧ y.cls ≠ "java/lang/invoke/MethodHandle" ∧ y.cls ≠ "java/lang/invoke/VarHandle" ∧ (parseMethodDescriptor y.desc).map (fun d => d.parameters.length) = some n) (hn : as.length = n) (hR : fr + 1 ≤ R.frames ∧ 8 + (L + 11) + lo ≤ R.locals) (hls : ls.size = nL) (hst : st0 = as.reverse ++ .ref a :: rest) (h8 : (rest.map fun v => v.category).sum ≤ 8) (hdg : decode cc pc = .ok (.invokevirtual idx, 3)) (hcs : cells ≤ R.cells ∧ slots ≤ R.slots)
    (kk : ∀ (u : St) (H1 : Heap) (locs : List Loc), post u → wd1 dC dI A s.heap a q d u H1 locs → H.size ≤ H1.size → (∀ x : Nat, x < H.size → ¬ va_A (wc1 a q d σ) H.size x → H1[x]? = H[x]?) → W p l e R s m args below meth c H1 locs cells slots Q (F0 m (pc + 3) ls rest)) : W p l e R s m args below meth c H locs cells slots Q (F0 m pc ls st0) := by
  have hFc := wd1_free hA hw
  refine va_callv (va_runV (As := as) (rest := rest) X.1 (hM dC dI a q d H.size) (cwV n X.1.2.2.2.2 hg rfl rfl rfl hd hR) ⟨Pr1_blind, va_recv X.2 hw.1 (ci := 1) (q0 := 0) rfl rfl, fun U hU hW => Pr1_here X.2 hw hU hW⟩ rfl hn hls hst (lv_room h8) hdg hcs) hw.2.2 (fun q _ h => hFc q h) hFc (fun u t H1 locs1 ht hvm hpost hB hz hk hS1 => ?_)
  obtain ⟨hP1, hK1, hD1⟩ := hB
  rw [ht] at hP1
  exact kk u H1 locs1 hpost ⟨hP1, hD1.weaken (fun k q _ h => hFc q.1 h), hS1⟩ hz hk
theorem r1_calli {own : String} {y : MethodName} {b : ByteArray} {L fr lo idx : Nat} {ty : FieldType} {as : List Value} {post : Int32 → St → Prop} (n : Nat) (X : cx own p s m args c cc nL dC dI d) (hA : ∀ x, s.heap.size ≤ x → A x) (hw : wd1 dC dI A s.heap a q d σ H locs) (hM : Ci1 l y b L ty fr lo as σ post) (hg : GoodIn lw_all (wsV own idx RX1 y (ws_ y b L (some ty))))
    (hd : y.cls = RX1 ∧ y.cls ≠ "java/lang/invoke/MethodHandle" ∧ y.cls ≠ "java/lang/invoke/VarHandle" ∧ (parseMethodDescriptor y.desc).map (fun d => d.parameters.length) = some n) (hn : as.length = n) (hR : fr + 1 ≤ R.frames ∧ 8 + (L + 11) + lo ≤ R.locals) (hls : ls.size = nL) (hst : st0 = as.reverse ++ .ref a :: rest) (h8 : (rest.map fun v => v.category).sum ≤ 8) (hdg : decode cc pc = .ok (.invokevirtual idx, 3)) (hcs : cells ≤ R.cells ∧ slots ≤ R.slots)
    (kk : ∀ (r : Int32) (u : St) (H1 : Heap) (locs : List Loc), post r u → wd1 dC dI A s.heap a q d u H1 locs → H.size ≤ H1.size → (∀ x : Nat, x < H.size → ¬ va_A (wc1 a q d σ) H.size x → H1[x]? = H[x]?) → W p l e R s m args below meth c H1 locs cells slots Q (F0 m (pc + 3) ls (.int r :: rest))) : W p l e R s m args below meth c H locs cells slots Q (F0 m pc ls st0) := by
  have hFc := wd1_free hA hw
  refine va_calli (va_runV (As := as) (rest := rest) X.1 (hM dC dI a q d H.size) (cwV n X.1.2.2.2.2 hg rfl rfl rfl hd hR) ⟨Pr1_blind, va_recv X.2 hw.1 (ci := 1) (q0 := 0) rfl rfl, fun U hU hW => Pr1_here X.2 hw hU hW⟩ rfl hn hls hst (lv_room h8) hdg hcs) hw.2.2 (fun q _ h => hFc q h) hFc (fun r u t H1 locs1 ht hvm hpost hB hz hk hS1 => ?_)
  obtain ⟨hP1, hK1, hD1⟩ := hB
  rw [ht] at hP1
  exact kk r u H1 locs1 hpost ⟨hP1, hD1.weaken (fun k q _ h => hFc q.1 h), hS1⟩ hz hk
end RW1
/-- a method's entry: Q is any aim that the method's return reaches -/
theorem e1_v {l : Launch} {y : MethodName} {b : ByteArray} {L fr lo : Nat} {as : List Value} {σ : St} {post : St → Prop} (hy : plainName y.cls = true) (hyc : y.cls = RX1) (hL : ∀ a : Nat, (lg_sl (.ref a :: as)).length ≤ L)
    (body : ∀ (p : Program) (e : Env) (R : Room) (s : State) (m : MethodId) (args : Array Value) (below : List Frame) (meth : Method) (c : Code) (Q : State → Prop) (dC : Nat → ClassId) (dI : Nat → Nat → Nat) (A : Nat → Prop) (a : Nat) (q : Nat → Nat) (d : ClassId), R = { frames := fr, cells := 0, slots := 0, locals := lo } → cx RX1 p s m args c b L dC dI d → (∀ x, s.heap.size ≤ x → A x) →
      (∀ (H : Heap) (locs : List Loc) (u : St) (pc : Nat) (ls : Array Slot), decode b pc = .ok (.return_, 1) → post u → wd1 dC dI A s.heap a q d u H locs → W p l e R s m args below meth c H locs 0 0 Q (F0 m pc ls [])) →
      ∀ ls : Array Slot, lv_has ls L (lv_args 0 (.ref a :: as)) → wd1 dC dI A s.heap a q d σ s.heap [] → W p l e R s m args below meth c s.heap [] 0 0 Q (F0 m 0 ls [])) : Cv1 l y b L fr lo as σ post := by
  intro dC dI a q d sz
  refine Met.ofW (cc := b) (maxL := L) (ret := none) hy rfl ?_
  intro p e s m args below meth c s₁ B hml hv
  obtain ⟨rfl, hsz, hP, hK, hD0⟩ := hv
  have hts := atoms_spec (ws := ws_ y b L none) B.pre
  have hts : ∀ w ∈ lw_all, w.before _ s = true := fun w h => hts w (List.mem_cons_of_mem _ h)
  have hown : s.vm.findClass RX1 = some m.cls := by rw [← hyc]; exact findClass_of_methodNamed B.named
  subst hsz
  have hD := hD0.self (sz := s.heap.size)
  have hl := lv_entry (.ref a :: as) (n := L) (hL a)
  rw [lg_entry_eq]
  exact body p e _ s m _ below meth c _ dC dI _ a q d rfl ⟨⟨B.exec, B.bytes, hml, hown, hts⟩, hK⟩ (fun x h => Or.inr h) (fun H locs u pc ls hdg hpost hw => W.vret B.exec B.bytes B.returns (fun t ht hW => ⟨⟨u, rfl, hpost, by rw [ht]; exact hw.1, va_K.moved hW.alike hK, hw.2.1⟩, hw.2.2.F ht⟩) hw.2.2.2.2 hdg B.notSynchronized) _ hl ⟨hP, hD, va_S.rf⟩
theorem e1_i {l : Launch} {y : MethodName} {b : ByteArray} {L fr lo : Nat} {ty : FieldType} {as : List Value} {σ : St} {post : Int32 → St → Prop} (hy : plainName y.cls = true) (hyc : y.cls = RX1) (hL : ∀ a : Nat, (lg_sl (.ref a :: as)).length ≤ L)
    (body : ∀ (p : Program) (e : Env) (R : Room) (s : State) (m : MethodId) (args : Array Value) (below : List Frame) (meth : Method) (c : Code) (Q : State → Prop) (dC : Nat → ClassId) (dI : Nat → Nat → Nat) (A : Nat → Prop) (a : Nat) (q : Nat → Nat) (d : ClassId), R = { frames := fr, cells := 0, slots := 0, locals := lo } → cx RX1 p s m args c b L dC dI d → (∀ x, s.heap.size ≤ x → A x) →
      (∀ (H : Heap) (locs : List Loc) (r : Int32) (u : St) (pc : Nat) (ls : Array Slot), decode b pc = .ok (.ireturn, 1) → narrow ty (.int r) = .int r → post r u → wd1 dC dI A s.heap a q d u H locs → W p l e R s m args below meth c H locs 0 0 Q (F0 m pc ls [.int r])) →
      ∀ ls : Array Slot, lv_has ls L (lv_args 0 (.ref a :: as)) → wd1 dC dI A s.heap a q d σ s.heap [] → W p l e R s m args below meth c s.heap [] 0 0 Q (F0 m 0 ls [])) : Ci1 l y b L ty fr lo as σ post := by
  intro dC dI a q d sz
  refine Met.ofW (cc := b) (maxL := L) (ret := some ty) hy rfl ?_
  intro p e s m args below meth c s₁ B hml hv
  obtain ⟨rfl, hsz, hP, hK, hD0⟩ := hv
  have hts := atoms_spec (ws := ws_ y b L (some ty)) B.pre
  have hts : ∀ w ∈ lw_all, w.before _ s = true := fun w h => hts w (List.mem_cons_of_mem _ h)
  have hown : s.vm.findClass RX1 = some m.cls := by rw [← hyc]; exact findClass_of_methodNamed B.named
  subst hsz
  have hD := hD0.self (sz := s.heap.size)
  have hl := lv_entry (.ref a :: as) (n := L) (hL a)
  rw [lg_entry_eq]
  exact body p e _ s m _ below meth c _ dC dI _ a q d rfl ⟨⟨B.exec, B.bytes, hml, hown, hts⟩, hK⟩ (fun x h => Or.inr h) (fun H locs r u pc ls hdg hn hpost hw => W.zret B.exec B.bytes B.returns hn (fun t ht hW => ⟨⟨r, u, rfl, hpost, by rw [ht]; exact hw.1, va_K.moved hW.alike hK, hw.2.1⟩, hw.2.2.F ht⟩) hw.2.2.2.2 hdg B.notSynchronized) _ hl ⟨hP, hD, va_S.rf⟩
end
section
set_option maxRecDepth 100000
/-! ===== what every method computes, over pure states: the component ===== -/
def cn (x : Int32) : Nat := x.toNatClampNeg
theorem cn_nI {n : Nat} (h : n < 2 ^ 31) : cn (nI n) = n := nI_clamp h
/-- bad(co), badCo(co) -/
def bd (x : Int32) : Int32 := if x < 0 then 1 else if x ≤ 3 then 0 else 1
/-- readsAt -/
def rdA (σ : St) (f : Nat) (P : Int32) : Int32 := if P < 0 then 0 else if P < σ 0 f then σ 6 (f * 9 + cn P) else 0
/-- the bit of a register -/
def bm (x : Int32) : Int32 := (1 : Int32) <<< (x &&& 31)
/-- readsBefore -/
def rdB (σ : St) (f p : Nat) : Int32 :=
  if σ 1 (f * 8 + p) = 0 then rdA σ f (nI (p + 1)) &&& (bm (σ 2 (f * 8 + p)) ^^^ (-1))
  else if σ 1 (f * 8 + p) = 1 then rdA σ f (nI (p + 1)) ||| bm (σ 2 (f * 8 + p)) ||| bm (σ 3 (f * 8 + p))
  else if σ 1 (f * 8 + p) = 2 then rdA σ f (nI (p + 1)) ||| bm (σ 2 (f * 8 + p)) ||| bm (σ 3 (f * 8 + p))
  else if σ 1 (f * 8 + p) = 3 then rdA σ f (σ 4 (f * 8 + p))
  else if σ 1 (f * 8 + p) = 4 then rdA σ f (nI (p + 1)) ||| bm (σ 2 (f * 8 + p)) ||| rdA σ f (σ 4 (f * 8 + p))
  else if σ 1 (f * 8 + p) = 5 then (rdA σ f (nI (p + 1)) &&& (bm (σ 3 (f * 8 + p)) ^^^ (-1))) ||| bm (σ 2 (f * 8 + p))
  else if σ 1 (f * 8 + p) = 6 then rdA σ f (nI (p + 1)) ||| bm (σ 2 (f * 8 + p))
  else bm (σ 2 (f * 8 + p))
/-- keptAt -/
def kp (σ : St) (f p : Nat) : Int32 := rdA σ f (nI (p + 1)) &&& (bm (if σ 1 (f * 8 + p) = 5 then σ 3 (f * 8 + p) else σ 2 (f * 8 + p)) ^^^ (-1))
/-- analyseAt at place f, p: its answer, its state -/
def anG (σ : St) (f p : Nat) : Int32 := if nI p < σ 0 f then (if rdB σ f p = σ 6 (f * 9 + p) then 0 else 1) else 0
def anS (σ : St) (f p : Nat) : St := if nI p < σ 0 f then (if rdB σ f p = σ 6 (f * 9 + p) then σ else su σ 6 (f * 9 + p) (rdB σ f p)) else σ
/-- one pass over the places i-1 .. 0 -/
def anR : Nat → St → Int32 → St × Int32
  | 0, σ, m => (σ, m)
  | i + 1, σ, m => anR i (anS σ (i / 8) (i % 8)) (if m = 0 then anG σ (i / 8) (i % 8) else 1)
def anL : Nat → St → St
  | 0, σ => σ
  | n + 1, σ => if (anR 24 σ 0).2 = 0 then (anR 24 σ 0).1 else anL n (anR 24 σ 0).1
def anZ (σ : St) : Nat → St
  | 0 => σ
  | i + 1 => su (anZ σ i) 6 i 0
/-- analyse -/
def anz (σ : St) : St := if σ 5 0 = 0 then anL 97 (anZ (su σ 5 0 1) 27) else σ
/-- is register r kept -/
abbrev bk (k : Int32) (r : Nat) : Prop := (k >>> (nI r &&& 31)) &&& 1 = 1
/-- how many of the registers below r are kept -/
def rk (k : Int32) : Nat → Nat
  | 0 => 0
  | r + 1 => if bk k r then rk k r + 1 else rk k r
def pkL (σ : St) (k : Int32) (g : Nat) : Nat → St
  | 0 => σ
  | r + 1 => if bk k r then su (pkL σ k g r) 13 (g * 4 + rk k r) ((pkL σ k g r) 16 r) else pkL σ k g r
/-- pack into frame g, the frame at work being at f, p -/
def pk (σ : St) (g f p : Nat) : St := pkL (su (su σ 11 g (nI f)) 12 g (nI p)) (kp σ f p) g 4
def zrL (σ : St) : Nat → St
  | 0 => σ
  | r + 1 => su (zrL σ r) 16 r 0
def unL (σ : St) (k : Int32) (g : Nat) : Nat → St
  | 0 => σ
  | r + 1 => if bk k r then su (unL σ k g r) 16 r ((unL σ k g r) 13 (g * 4 + rk k r)) else unL σ k g r
/-- function and place out of frame g, the registers 0 -/
def up1 (σ : St) (g : Nat) : St := zrL (su (su σ 14 0 (σ 11 g)) 15 0 (σ 12 g)) 4
/-- unpack frame g -/
def up0 (σ : St) (g : Nat) : St := if σ 12 g < 0 then su (up1 σ g) 16 0 (σ 13 (g * 4)) else unL (up1 σ g) (kp σ (cn (σ 11 g)) (cn (σ 12 g))) g 4
/-- finish -/
def fin0 (σ : St) (co : Nat) (st v : Int32) : St := su (su (su σ 7 co st) 8 co v) 10 co 0
/-- giveBack, the depth being d + 1 -/
def gb1 (σ : St) (g : Nat) (v : Int32) : St := su (su (up0 σ g) 16 (cn (σ 2 (cn (σ 11 g) * 8 + cn (σ 12 g)))) v) 15 0 (σ 12 g + 1)
def gb (σ : St) (co d : Nat) (v : Int32) : St := if d = 0 then fin0 (su σ 10 co 0) co 3 v else gb1 (su σ 10 co (nI d)) (co * 4 + (d - 1)) v
def md3 (c : Int32) : Int32 := if c - c / 3 * 3 < 0 then c - c / 3 * 3 + 3 else c - c / 3 * 3
/-- call, the depth being d + 1, at f, p -/
def cl (σ : St) (co d f p : Nat) : St := if 3 ≤ d then fin0 σ co 4 0 else su (zrL (su (su (su (pk σ (co * 4 + d) f p) 10 co (nI (d + 2))) 14 0 (md3 (σ 4 (f * 8 + p)))) 15 0 0) 4) 16 0 (σ 16 (cn (σ 2 (f * 8 + p))))
/-- perform, the depth being d + 1, at f, p -/
def prf (σ : St) (co d f p : Nat) : St :=
  if σ 1 (f * 8 + p) = 0 then su (su σ 16 (cn (σ 2 (f * 8 + p))) (σ 4 (f * 8 + p))) 15 0 (nI (p + 1))
  else if σ 1 (f * 8 + p) = 1 then su (su σ 16 (cn (σ 2 (f * 8 + p))) (σ 16 (cn (σ 2 (f * 8 + p))) + σ 16 (cn (σ 3 (f * 8 + p))))) 15 0 (nI (p + 1))
  else if σ 1 (f * 8 + p) = 2 then su (su σ 16 (cn (σ 2 (f * 8 + p))) (σ 16 (cn (σ 2 (f * 8 + p))) - σ 16 (cn (σ 3 (f * 8 + p))))) 15 0 (nI (p + 1))
  else if σ 1 (f * 8 + p) = 3 then su σ 15 0 (σ 4 (f * 8 + p))
  else if σ 1 (f * 8 + p) = 4 then su σ 15 0 (if σ 16 (cn (σ 2 (f * 8 + p))) ≤ 0 then nI (p + 1) else σ 4 (f * 8 + p))
  else if σ 1 (f * 8 + p) = 5 then pk (su (su σ 7 co 2) 8 co (σ 16 (cn (σ 2 (f * 8 + p))))) (co * 4 + d) f p
  else if σ 1 (f * 8 + p) = 6 then cl σ co d f p
  else gb σ co d (σ 16 (cn (σ 2 (f * 8 + p))))
def stp (σ : St) (co : Nat) : St := prf σ co (cn (σ 10 co) - 1) (cn (σ 14 0)) (cn (σ 15 0))
/-- pastEnd -/
def pe (σ : St) : Int32 := if σ 15 0 < 0 then 1 else if σ 15 0 < σ 0 (cn (σ 14 0)) then 0 else 1
/-- returnAtEnd, n times at most -/
def raL (co : Nat) : Nat → St → St
  | 0, σ => σ
  | n + 1, σ => if σ 7 co = 5 then (if pe σ = 0 then σ else raL co n (gb σ co (cn (σ 10 co) - 1) 0)) else σ
/-- carryOn's loop: k times at most, n done -/
def cyL (co : Nat) : Nat → St → Nat → St × Nat
  | 0, σ, n => (σ, n)
  | k + 1, σ, n => if σ 7 co = 5 then cyL co k (raL co 4 (stp σ co)) (n + 1) else (σ, n)
def cyE (co : Nat) (x : St × Nat) : St := su (if x.1 7 co = 5 then fin0 x.1 co 4 0 else x.1) 9 co (nI x.2)
/-- carryOn -/
def cy (σ : St) (co : Nat) : St := cyE co (cyL co 80 (raL co 4 (su (su σ 7 co 5) 8 co 0)) 0)
/-- goOn, up to its carryOn -/
def go1 (σ : St) (co : Nat) (v : Int32) (g : Nat) : St := if σ 7 co = 2 then su (up0 σ g) 16 (cn (σ 3 (cn (σ 11 g) * 8 + cn (σ 12 g)))) v else up0 σ g
def go2 (σ : St) (co : Nat) (v : Int32) (g : Nat) : St := su (go1 σ co v g) 15 0 (σ 12 g + 1)
def go (σ : St) (co : Nat) (v : Int32) : St := cy (go2 (anz σ) co v (co * 4 + (cn (σ 10 co) - 1))) co
/-- resume -/
def rs0 (σ : St) (a v : Int32) : Int32 × St := if bd a = 0 then (if σ 7 (cn a) = 1 ∨ σ 7 (cn a) = 2 then ((go σ (cn a) v) 7 (cn a), go σ (cn a) v) else (-4, σ)) else (-1, σ)
/-- echo -/
def ecL (co : Nat) : Nat → St → Int32 → Int32 × St
  | 0, σ, s => (s, σ)
  | k + 1, σ, s => if σ 7 co = 2 then ecL co k (go σ co (σ 8 co)) (s + (go σ co (σ 8 co)) 8 co) else (s, σ)
def mo (n : Int32) : Int32 := if n ≤ 20 then n else 20
def ec0 (σ : St) (a n : Int32) : Int32 × St := if bd a = 0 then (if σ 7 (cn a) = 2 then ecL (cn a) (cn (mo n)) σ 0 else (-4, σ)) else (-1, σ)
/-- start -/
def ss0 (σ : St) (co : Nat) (f x : Int32) : St := su (su (su (su (su (su (su σ 7 co 1) 8 co 0) 9 co 0) 10 co 1) 11 (co * 4) f) 12 (co * 4) (-1)) 13 (co * 4 * 4) x
def st0 (σ : St) (a f x : Int32) : Int32 × St := if bd a = 0 then (if f < 0 then (-1, σ) else if f < 3 then (0, ss0 σ (cn a) f x) else (-1, σ)) else (-1, σ)
/-- emit -/
def em2 (σ : St) (f j : Nat) (op rg c : Int32) : St := su (su (su (su σ 1 j op) 2 j (rg &&& 3)) 3 j ((rg >>> (2 &&& 31)) &&& 3)) 4 j c
def em1 (σ : St) (f : Nat) (op rg c : Int32) : Int32 × St :=
  if σ 0 f < 8 then ((σ 0 f + 1) - 1, su (su (em2 σ f (f * 8 + cn (σ 0 f)) op rg c) 0 f (σ 0 f + 1)) 5 0 0) else (-2, σ)
def em0 (σ : St) (f op rg c : Int32) : Int32 × St :=
  if f < 0 then (-1, σ) else if 3 ≤ f then (-1, σ) else if op < 0 then (-1, σ) else if op ≤ 7 then
    (if σ 7 0 = 0 ∧ σ 7 1 = 0 ∧ σ 7 2 = 0 ∧ σ 7 3 = 0 then em1 σ (cn f) op rg c else (-3, σ)) else (-1, σ)
/-- copy -/
def cpA (σ : St) (f t : Nat) : Nat → St
  | 0 => σ
  | i + 1 => su (su (cpA σ f t i) 11 (t * 4 + i) ((cpA σ f t i) 11 (f * 4 + i))) 12 (t * 4 + i) ((cpA σ f t i) 12 (f * 4 + i))
def cpB (σ : St) (f t : Nat) : Nat → St
  | 0 => σ
  | i + 1 => su (cpB σ f t i) 13 (t * 16 + i) ((cpB σ f t i) 13 (f * 16 + i))
def cpC (σ : St) (f t : Nat) : St := su (su (su (su σ 7 t (σ 7 f)) 8 t (σ 8 f)) 9 t (σ 9 f)) 10 t (σ 10 f)
def cpD (σ : St) (f t : Nat) : St := cpB (cpA (cpC σ f t) f t 4) f t 16
def cp0 (σ : St) (a b : Int32) : Int32 × St := if bd a = 0 then (if bd b = 0 then (σ 7 (cn a), cpD σ (cn a) (cn b)) else (-1, σ)) else (-1, σ)
/-- drop -/
def dr0 (σ : St) (a : Int32) : Int32 × St := if bd a = 0 then (σ 7 (cn a), su (fin0 σ (cn a) 0 0) 9 (cn a) 0) else (-1, σ)
/-- state, value, depth, steps by their field; alike -/
def qu (k : Nat) (σ : St) (a : Int32) : Int32 := if bd a = 0 then σ k (cn a) else -1
def al (k v : Nat) (σ : St) (a b : Int32) : Int32 := if bd a = 0 then (if bd b = 0 then (if σ k (cn a) = σ k (cn b) then (if σ v (cn a) = σ v (cn b) then 1 else 0) else 0) else 0) else 0
/-! ===== the model ===== -/
/-- push, the depth being d -/
def pu (τ : St) (co d : Nat) (f x : Int32) : St := su (su (su (su (su (su (su τ 8 (co * 4 + d) f) 9 (co * 4 + d) 0) 11 ((co * 4 + d) * 4) x) 11 ((co * 4 + d) * 4 + 1) 0) 11 ((co * 4 + d) * 4 + 2) 0) 11 ((co * 4 + d) * 4 + 3) 0) 7 co (nI (d + 1))
/-- end -/
def en (τ : St) (co : Nat) (st v : Int32) : St := su (su (su τ 4 co st) 5 co v) 7 co 0
/-- back, the depth being d + 1 -/
def ba (τ : St) (co d : Nat) (v : Int32) : St := if d = 0 then en (su τ 7 co 0) co 3 v else su (su τ 7 co (nI d)) 11 ((co * 4 + (d - 1)) * 4 + cn (τ 10 (co * 4 + (d - 1)))) v
def mm3 (c : Int32) : Int32 := (c - c / 3 * 3 + 3) - (c - c / 3 * 3 + 3) / 3 * 3
def xA (τ : St) (f p : Nat) : Int32 := τ 2 (f * 8 + p) &&& 3
def xB (τ : St) (f p : Nat) : Int32 := (τ 2 (f * 8 + p) >>> (2 &&& 31)) &&& 3
/-- carryOut, the depth being d + 1, at f, p -/
def ct (τ : St) (co d f p : Nat) : St :=
  if τ 1 (f * 8 + p) = 0 then su (su τ 9 (co * 4 + d) (nI (p + 1))) 11 ((co * 4 + d) * 4 + cn (xA τ f p)) (τ 3 (f * 8 + p))
  else if τ 1 (f * 8 + p) = 1 then su (su τ 9 (co * 4 + d) (nI (p + 1))) 11 ((co * 4 + d) * 4 + cn (xA τ f p)) (τ 11 ((co * 4 + d) * 4 + cn (xA τ f p)) + τ 11 ((co * 4 + d) * 4 + cn (xB τ f p)))
  else if τ 1 (f * 8 + p) = 2 then su (su τ 9 (co * 4 + d) (nI (p + 1))) 11 ((co * 4 + d) * 4 + cn (xA τ f p)) (τ 11 ((co * 4 + d) * 4 + cn (xA τ f p)) - τ 11 ((co * 4 + d) * 4 + cn (xB τ f p)))
  else if τ 1 (f * 8 + p) = 3 then su (su τ 9 (co * 4 + d) (nI (p + 1))) 9 (co * 4 + d) (τ 3 (f * 8 + p))
  else if τ 1 (f * 8 + p) = 4 then (if τ 11 ((co * 4 + d) * 4 + cn (xA τ f p)) ≤ 0 then su τ 9 (co * 4 + d) (nI (p + 1)) else su (su τ 9 (co * 4 + d) (nI (p + 1))) 9 (co * 4 + d) (τ 3 (f * 8 + p)))
  else if τ 1 (f * 8 + p) = 5 then su (su (su (su τ 9 (co * 4 + d) (nI (p + 1))) 10 (co * 4 + d) (xB τ f p)) 4 co 2) 5 co (τ 11 ((co * 4 + d) * 4 + cn (xA τ f p)))
  else if τ 1 (f * 8 + p) = 6 then (if d = 3 then en (su τ 9 (co * 4 + d) (nI (p + 1))) co 4 0 else pu (su (su τ 9 (co * 4 + d) (nI (p + 1))) 10 (co * 4 + d) (xA τ f p)) co (d + 1) (mm3 (τ 3 (f * 8 + p))) (τ 11 ((co * 4 + d) * 4 + cn (xA τ f p))))
  else if τ 1 (f * 8 + p) = 7 then ba (su τ 9 (co * 4 + d) (nI (p + 1))) co d (τ 11 ((co * 4 + d) * 4 + cn (xA τ f p)))
  else su τ 9 (co * 4 + d) (nI (p + 1))
/-- the last frame -/
def tg (τ : St) (co : Nat) : Nat := co * 4 + (cn (τ 7 co) - 1)
def ct1 (τ : St) (co : Nat) : St := ct τ co (cn (τ 7 co) - 1) (cn (τ 8 (tg τ co))) (cn (τ 9 (tg τ co)))
/-- is the last frame past its end -/
def pe1 (τ : St) (co : Nat) : Int32 := if τ 9 (tg τ co) < 0 then 1 else if τ 9 (tg τ co) < τ 0 (cn (τ 8 (tg τ co))) then 0 else 1
/-- fallOff -/
def foL (co : Nat) : Nat → St → St
  | 0, τ => τ
  | n + 1, τ => if τ 4 co = 1 then (if τ 7 co ≤ 0 then foL co n τ else if pe1 τ co = 0 then foL co n τ else foL co n (ba τ co (cn (τ 7 co) - 1) 0)) else foL co n τ
def rn1 (τ : St) (co : Nat) : St := su τ 6 co (τ 6 co + 1)
def reL (co : Nat) : Nat → St → St
  | 0, τ => τ
  | n + 1, τ => if τ 4 co = 1 then reL co n (rn1 (foL co 4 (ct1 τ co)) co) else reL co n τ
def reE (co : Nat) (τ : St) : St := if τ 4 co = 1 then en τ co 4 0 else τ
def re0 (τ : St) (co : Nat) (v : Int32) : St := if τ 4 co = 2 then su τ 11 (tg τ co * 4 + cn (τ 10 (tg τ co))) v else τ
def re (τ : St) (co : Nat) (v : Int32) : St := reE co (reL co 80 (foL co 4 (su (su (su (re0 τ co v) 4 co 1) 5 co 0) 6 co 0)))
def rs1 (τ : St) (a v : Int32) : Int32 × St := if bd a = 0 then (if τ 4 (cn a) = 1 ∨ τ 4 (cn a) = 2 then ((re τ (cn a) v) 4 (cn a), re τ (cn a) v) else (-4, τ)) else (-1, τ)
/-- echo's loop from k on, n calls asked -/
def eL1 (co : Nat) (n : Int32) : Nat → Nat → St → Int32 → Int32 × St
  | 0, _, τ, s => (s, τ)
  | m + 1, k, τ, s => if nI k < n then (if τ 4 co = 2 then eL1 co n m (k + 1) (re τ co (τ 5 co)) (s + (re τ co (τ 5 co)) 5 co) else eL1 co n m (k + 1) τ s) else eL1 co n m (k + 1) τ s
def ec1 (τ : St) (a n : Int32) : Int32 × St := if bd a = 0 then (if τ 4 (cn a) = 2 then eL1 (cn a) n 20 0 τ 0 else (-4, τ)) else (-1, τ)
def ss1 (τ : St) (co : Nat) (f x : Int32) : St := su (su (su (pu (su τ 7 co 0) co 0 f x) 4 co 1) 5 co 0) 6 co 0
def st1 (τ : St) (a f x : Int32) : Int32 × St := if bd a = 0 then (if f < 0 then (-1, τ) else if f ≤ 2 then (0, ss1 τ (cn a) f x) else (-1, τ)) else (-1, τ)
def e12 (τ : St) (f : Nat) (op rg c : Int32) : Int32 × St :=
  if τ 0 f = 8 then (-2, τ) else (τ 0 f, su (su (su (su τ 1 (f * 8 + cn (τ 0 f)) op) 2 (f * 8 + cn (τ 0 f)) rg) 3 (f * 8 + cn (τ 0 f)) c) 0 f (τ 0 f + 1))
def e11 (τ : St) (f op rg c : Int32) : Int32 × St :=
  if f < 0 then (-1, τ) else if 2 < f then (-1, τ) else if op < 0 then (-1, τ) else if op ≤ 7 then
    (if τ 4 0 = 0 ∧ τ 4 1 = 0 ∧ τ 4 2 = 0 ∧ τ 4 3 = 0 then e12 τ (cn f) op rg c else (-3, τ)) else (-1, τ)
def c1A (τ : St) (f t : Nat) : Nat → St
  | 0 => τ
  | i + 1 => su (su (su (c1A τ f t i) 8 (t * 4 + i) ((c1A τ f t i) 8 (f * 4 + i))) 9 (t * 4 + i) ((c1A τ f t i) 9 (f * 4 + i))) 10 (t * 4 + i) ((c1A τ f t i) 10 (f * 4 + i))
def c1B (τ : St) (f t : Nat) : Nat → St
  | 0 => τ
  | i + 1 => su (c1B τ f t i) 11 (t * 16 + i) ((c1B τ f t i) 11 (f * 16 + i))
def c1C (τ : St) (f t : Nat) : St := su (su (su (su τ 4 t (τ 4 f)) 5 t (τ 5 f)) 6 t (τ 6 f)) 7 t (τ 7 f)
def c1D (τ : St) (f t : Nat) : St := c1B (c1A (c1C τ f t) f t 4) f t 16
def cp1 (τ : St) (a b : Int32) : Int32 × St := if bd a = 0 then (if bd b = 0 then (τ 4 (cn a), c1D τ (cn a) (cn b)) else (-1, τ)) else (-1, τ)
def dr1 (τ : St) (a : Int32) : Int32 × St := if bd a = 0 then (τ 4 (cn a), su (en τ (cn a) 0 0) 6 (cn a) 0) else (-1, τ)
end
section
set_option maxRecDepth 100000
/-! numbers -/
theorem ix_of {P : Int32} {n : Nat} (h0 : ¬ P < 0) (h : P < nI n) (hn : n < 2 ^ 31) : ∃ j, j < n ∧ P = nI j := by
  obtain ⟨j, hj, rfl⟩ := nI_of h0
  exact ⟨j, (nI_ltI hj hn).mp h, rfl⟩
/-- the sizes are 0 .. 8 -/
def szw (σ : St) : Prop := ∀ f, ∃ n, n ≤ 8 ∧ σ 0 f = nI n
theorem szw_su {σ : St} {k i : Nat} {v : Int32} (h : szw σ) (hk : 0 ≠ k) : szw (su σ k i v) := by
  intro f
  rw [su_ne hk]
  exact h f
theorem sz_ix {σ : St} (h : szw σ) {f : Nat} {P : Int32} (h0 : ¬ P < 0) (h1 : P < σ 0 f) : ∃ j, j < 8 ∧ P = nI j := by
  obtain ⟨n, hn, e⟩ := h f
  rw [e] at h1
  obtain ⟨j, hj, e2⟩ := ix_of h0 h1 (by omega)
  exact ⟨j, by omega, e2⟩
theorem bd_ok {x : Int32} (h : bd x = 0) : ∃ k, k < 4 ∧ x = nI k := by
  unfold bd at h
  by_cases h0 : x < 0
  · rw [if_pos h0] at h
    cases h
  · rw [if_neg h0] at h
    by_cases h3 : x ≤ 3
    · obtain ⟨j, hj, e⟩ := nI_of2 (M := 3) (n := 3) (by decide) h0 h3
      exact ⟨j, by omega, e⟩
    · rw [if_neg h3] at h
      cases h
theorem bd_nI {k : Nat} (h : k < 4) : bd (nI k) = 0 := by
  rcases (show k = 0 ∨ k = 1 ∨ k = 2 ∨ k = 3 by omega) with rfl | rfl | rfl | rfl <;> decide
theorem bd_z (x : Int32) : narrow .boolean (.int (bd x)) = .int (bd x) := by
  unfold bd
  split
  · rfl
  · split <;> rfl
/-! bad(co), a static method that only reads its argument -/
set_option maxHeartbeats 4000000 in
theorem k_bad (l : Launch) (x : Int32) : Met l yX0_bad (ws_ yX0_bad cX0_bad 1 (some .boolean)) ({ frames := 0, cells := 0, slots := 0, locals := 0 }) (va_Pc [.int x] (fun _ => True)) (QcRead (bd x)) 0 0 (fun _ => False) := by
  refine Met.ofW (cc := cX0_bad) (maxL := 1) (ret := some .boolean) (by decide) rfl ?_
  intro p e s m args below meth c s₁ B hml hv
  obtain ⟨rfl, -⟩ := hv
  have hx := B.exec
  have hb := B.bytes
  have hr := B.returns
  have hlocks := B.notSynchronized
  have hl := lv_entry ([.int x]) (n := 1) (Nat.le_of_ble_eq_true rfl)
  rw [lg_entry_eq]
  generalize (lg_sl ([.int x]) ++ List.replicate (1 - (lg_sl ([.int x])).length) Slot.unset).toArray = ls at hl ⊢
  have hl : lv_has ls 1 [(0, .int x)] := hl
  have one : ∀ v : Int32, v = bd x → narrow .boolean (.int v) = .int v → W p l e (headSpec (ws_ yX0_bad cX0_bad 1 (some .boolean)) ({ frames := 0, cells := 0, slots := 0, locals := 0 })).room s m ([.int x] : List Value).toArray below meth c s.heap [] 0 0 (MQ below (QcRead (bd x)) ([.int x] : List Value).toArray s 0 0 (fun _ => False)) (F0 m 14 ls [.int v]) := fun v e hn => W.zret hx hb hr hn (fun t ht hW => ⟨by rw [e], ht⟩) (fun _ h => by cases h) dX0_bad_14
  refine lv_iload_n hx hb dX0_bad_0 rfl (lv_at hl 0 rfl) ?_
  refine lv_if_lt (tgt := 9) hx hb dX0_bad_1 (by decide) (fun c1 => ?_) (fun c1 => ?_)
  · refine lv_iconst (v := 1) hx hb dX0_bad_9 (by decide) ?_
    refine lv_goto (tgt := 14) hx hb dX0_bad_10 (by decide) ?_
    exact one 1 (by unfold bd; rw [if_pos c1]) rfl
  · refine lv_iload_n hx hb dX0_bad_4 rfl (lv_at hl 0 rfl) ?_
    refine lv_iconst (v := 3) hx hb dX0_bad_5 (by decide) ?_
    refine lv_icmp_le (tgt := 13) hx hb dX0_bad_6 (by decide) (fun c2 => ?_) (fun c2 => ?_)
    · refine lv_iconst (v := 0) hx hb dX0_bad_13 (by decide) ?_
      exact one 0 (by unfold bd; rw [if_neg c1, if_pos c2]) rfl
    · refine lv_iconst (v := 1) hx hb dX0_bad_9 (by decide) ?_
      refine lv_goto (tgt := 14) hx hb dX0_bad_10 (by decide) ?_
      exact one 1 (by unfold bd; rw [if_neg c1, if_neg c2]) rfl
theorem x_bad {p : Program} {l : Launch} {e : Env} {R : Room} {s : State} {m : MethodId} {args : Array Value} {below : List Frame} {meth : Method} {c : Code} {H : Heap} {locs : List Loc} {cells slots : Nat} {Q : State → Prop} {cc : ByteArray} {pc nL : Nat} {ls : Array Slot} {rest : List Value} {dC : Nat → ClassId} {dI : Nat → Nat → Nat} {d : ClassId} {x : Int32}
    (X : cx RX0 p s m args c cc nL dC dI d) (hR : 0 + 1 ≤ R.frames ∧ 8 + (1 + 11) + 0 ≤ R.locals) (hls : ls.size = nL) (h8 : (rest.map fun v => v.category).sum ≤ 8) (hdg : decode cc pc = .ok (.invokestatic 105, 3)) (hcs : cells ≤ R.cells ∧ slots ≤ R.slots)
    (kk : W p l e R s m args below meth c H locs cells slots Q (F0 m (pc + 3) ls (.int (bd x) :: rest))) : W p l e R s m args below meth c H locs cells slots Q (F0 m pc ls (.int x :: rest)) :=
  W.callR (W.runS (As := [.int x]) (rest := rest) X.1 (k_bad l x) (va_cwS 1 X.1.2.2.2.2 (lw_S q93 q94 q22 q95) rfl rfl rfl (by decide +kernel) hR) ⟨fun _ _ _ _ h => h, fun _ _ _ => ⟨rfl, trivial⟩⟩ rfl rfl hls rfl (lv_room h8) hdg hcs) kk
end
section
set_option maxRecDepth 100000

set_option maxHeartbeats 4000000 in
theorem k0_finish (l : Launch) (σ : St) (co : Nat) (st v : Int32) (hco : co < 4) : Cv0 l yX0_finish cX0_finish 4 0 0 [.int (nI co), .int st, .int v] σ (fun u => u = fin0 σ co st v) := by
  refine e0_v (by decide) rfl (fun _ => Nat.le_of_ble_eq_true rfl) ?_
  intro pG eN R sT mD aR bL mT cD Q dC dI A oA qA dA hR X hA hret ls hl hw
  have hx := X.1.1
  have hb := X.1.2.1
  have hl : lv_has ls 4 [(0, .ref oA), (1, .int (nI co)), (2, .int st), (3, .int v)] := hl
  refine lv_aload_n hx hb dX0_finish_0 rfl (lv_at hl 0 rfl) ?_
  refine r0_get X hw 7 (by decide) q39 rfl rfl dX0_finish_1 ?_
  refine lv_iload_n hx hb dX0_finish_4 rfl (lv_at hl 1 rfl) ?_
  refine lv_iload_n hx hb dX0_finish_5 rfl (lv_at hl 2 rfl) ?_
  refine r0_ast X hw 6 (k := 7) rfl co rfl (show co < _ by first | assumption | (simp only [fl0]; omega)) dX0_finish_6 (fun H locs hw => ?_)
  refine lv_aload_n hx hb dX0_finish_7 rfl (lv_at hl 0 rfl) ?_
  refine r0_get X hw 8 (by decide) q40 rfl rfl dX0_finish_8 ?_
  refine lv_iload_n hx hb dX0_finish_11 rfl (lv_at hl 1 rfl) ?_
  refine lv_iload_n hx hb dX0_finish_12 rfl (lv_at hl 3 rfl) ?_
  refine r0_ast X hw 7 (k := 8) rfl co rfl (show co < _ by first | assumption | (simp only [fl0]; omega)) dX0_finish_13 (fun H locs hw => ?_)
  refine lv_aload_n hx hb dX0_finish_14 rfl (lv_at hl 0 rfl) ?_
  refine r0_get X hw 10 (by decide) q42 rfl rfl dX0_finish_15 ?_
  refine lv_iload_n hx hb dX0_finish_18 rfl (lv_at hl 1 rfl) ?_
  refine lv_iconst (v := 0) hx hb dX0_finish_19 (by decide) ?_
  refine r0_ast X hw 9 (k := 10) rfl co rfl (show co < _ by first | assumption | (simp only [fl0]; omega)) dX0_finish_20 (fun H locs hw => ?_)
  exact hret _ _ _ _ _ dX0_finish_21 rfl hw

set_option maxHeartbeats 4000000 in
theorem k0_readsAt (l : Launch) (σ : St) (f : Nat) (P : Int32) (hf : f < 3) (hsz : szw σ) : Ci0 l yX0_readsAt cX0_readsAt 3 .int 0 0 [.int (nI f), .int P] σ (fun r u => r = rdA σ f P ∧ u = σ) := by
  refine e0_i (by decide) rfl (fun _ => Nat.le_of_ble_eq_true rfl) ?_
  intro pG eN R sT mD aR bL mT cD Q dC dI A oA qA dA hR X hA hret ls hl hw
  have hx := X.1.1
  have hb := X.1.2.1
  have hl : lv_has ls 3 [(0, .ref oA), (1, .int (nI f)), (2, .int P)] := hl
  refine lv_iload_n hx hb dX0_readsAt_0 rfl (lv_at hl 2 rfl) ?_
  refine lv_if_lt (tgt := 14) hx hb dX0_readsAt_1 (by decide) (fun c1 => ?_) (fun c1 => ?_)
  · refine lv_iconst (v := 0) hx hb dX0_readsAt_14 (by decide) ?_
    refine lv_goto (tgt := 29) hx hb dX0_readsAt_15 (by decide) ?_
    exact hret _ _ _ _ _ _ dX0_readsAt_29 rfl ⟨by rw [rdA, if_pos c1], rfl⟩ hw
  · refine lv_iload_n hx hb dX0_readsAt_4 rfl (lv_at hl 2 rfl) ?_
    refine lv_aload_n hx hb dX0_readsAt_5 rfl (lv_at hl 0 rfl) ?_
    refine r0_get X hw 0 (by decide) q32 rfl rfl dX0_readsAt_6 ?_
    refine lv_iload_n hx hb dX0_readsAt_9 rfl (lv_at hl 1 rfl) ?_
    refine r0_ald X hw 0 (k := 0) rfl f rfl (show f < _ by first | assumption | (simp only [fl0]; omega)) dX0_readsAt_10 ?_
    refine lv_icmp_lt (tgt := 18) hx hb dX0_readsAt_11 (by decide) (fun c11 => ?_) (fun c11 => ?_)
    · obtain ⟨j, hj, ej⟩ := sz_ix hsz c1 c11
      refine lv_aload_n hx hb dX0_readsAt_18 rfl (lv_at hl 0 rfl) ?_
      refine r0_get X hw 6 (by decide) q38 rfl rfl dX0_readsAt_19 ?_
      refine lv_iload_n hx hb dX0_readsAt_22 rfl (lv_at hl 1 rfl) ?_
      refine lv_bipush (v := nI 9) hx hb dX0_readsAt_23 (by decide) ?_
      refine lv_imul hx hb dX0_readsAt_25 ?_
      refine lv_iload_n hx hb dX0_readsAt_26 rfl (lv_at hl 2 rfl) ?_
      refine lv_iadd hx hb dX0_readsAt_27 ?_
      refine x_top (y := nI (f * 9 + j)) (by rw [ej, pk_mul, nI_add]) ?_
      refine r0_ald X hw 5 (k := 6) rfl (f * 9 + j) rfl (show (f * 9 + j) < _ by first | assumption | (simp only [fl0]; omega)) dX0_readsAt_28 ?_
      exact hret _ _ _ _ _ _ dX0_readsAt_29 rfl ⟨by rw [rdA, if_neg c1, if_pos c11, ej, cn_nI (by omega)], rfl⟩ hw
    · refine lv_iconst (v := 0) hx hb dX0_readsAt_14 (by decide) ?_
      refine lv_goto (tgt := 29) hx hb dX0_readsAt_15 (by decide) ?_
      exact hret _ _ _ _ _ _ dX0_readsAt_29 rfl ⟨by rw [rdA, if_neg c1, if_neg c11], rfl⟩ hw

set_option maxHeartbeats 4000000 in
theorem k0_pastEnd (l : Launch) (σ : St) (f : Nat) (hf : f < 3) (ef : σ 14 0 = nI f) : Ci0 l yX0_pastEnd cX0_pastEnd 1 .boolean 0 0 [] σ (fun r u => r = pe σ ∧ u = σ) := by
  refine e0_i (by decide) rfl (fun _ => Nat.le_of_ble_eq_true rfl) ?_
  intro pG eN R sT mD aR bL mT cD Q dC dI A oA qA dA hR X hA hret ls hl hw
  have hx := X.1.1
  have hb := X.1.2.1
  have hl : lv_has ls 1 [(0, .ref oA)] := hl
  refine lv_aload_n hx hb dX0_pastEnd_0 rfl (lv_at hl 0 rfl) ?_
  refine r0_get X hw 15 (by decide) q47 rfl rfl dX0_pastEnd_1 ?_
  refine lv_if_lt (tgt := 23) hx hb dX0_pastEnd_4 (by decide) (fun c4 => ?_) (fun c4 => ?_)
  · refine lv_iconst (v := 1) hx hb dX0_pastEnd_23 (by decide) ?_
    refine lv_goto (tgt := 28) hx hb dX0_pastEnd_24 (by decide) ?_
    exact hret _ _ _ _ _ _ dX0_pastEnd_28 rfl ⟨by rw [pe, if_pos c4], rfl⟩ hw
  · refine lv_aload_n hx hb dX0_pastEnd_7 rfl (lv_at hl 0 rfl) ?_
    refine r0_get X hw 15 (by decide) q47 rfl rfl dX0_pastEnd_8 ?_
    refine lv_aload_n hx hb dX0_pastEnd_11 rfl (lv_at hl 0 rfl) ?_
    refine r0_get X hw 0 (by decide) q32 rfl rfl dX0_pastEnd_12 ?_
    refine lv_aload_n hx hb dX0_pastEnd_15 rfl (lv_at hl 0 rfl) ?_
    refine r0_get X hw 14 (by decide) q46 rfl rfl dX0_pastEnd_16 ?_
    refine x_top (y := nI f) ef ?_
    refine r0_ald X hw 0 (k := 0) rfl f rfl (show f < _ by first | assumption | (simp only [fl0]; omega)) dX0_pastEnd_19 ?_
    refine lv_icmp_lt (tgt := 27) hx hb dX0_pastEnd_20 (by decide) (fun c20 => ?_) (fun c20 => ?_)
    · refine lv_iconst (v := 0) hx hb dX0_pastEnd_27 (by decide) ?_
      exact hret _ _ _ _ _ _ dX0_pastEnd_28 rfl ⟨by rw [pe, if_neg c4, ef, cn_nI (by omega), if_pos c20], rfl⟩ hw
    · refine lv_iconst (v := 1) hx hb dX0_pastEnd_23 (by decide) ?_
      refine lv_goto (tgt := 28) hx hb dX0_pastEnd_24 (by decide) ?_
      exact hret _ _ _ _ _ _ dX0_pastEnd_28 rfl ⟨by rw [pe, if_neg c4, ef, cn_nI (by omega), if_neg c20], rfl⟩ hw

set_option maxHeartbeats 4000000 in
theorem k0_state (l : Launch) (σ : St) (x : Int32)  : Ci0 l yX0_state cX0_state 2 .int 1 20 [.int x] σ (fun r u => r = qu 7 σ x ∧ u = σ) := by
  refine e0_i (by decide) rfl (fun _ => Nat.le_of_ble_eq_true rfl) ?_
  intro pG eN R sT mD aR bL mT cD Q dC dI A oA qA dA hR X hA hret ls hl hw
  have hx := X.1.1
  have hb := X.1.2.1
  have hl : lv_has ls 2 [(0, .ref oA), (1, .int x)] := hl
  refine lv_iload_n hx hb dX0_state_0 rfl (lv_at hl 1 rfl) ?_
  refine x_bad X (by rw [hR]; exact ⟨Nat.le_of_ble_eq_true rfl, Nat.le_of_ble_eq_true rfl⟩) hl.1 (Nat.le_of_ble_eq_true rfl) dX0_state_1 ⟨Nat.zero_le _, Nat.zero_le _⟩ ?_
  refine lv_if_eq (tgt := 11) hx hb dX0_state_4 (by decide) (fun c4 => ?_) (fun c4 => ?_)
  · obtain ⟨k, hk, ek⟩ := bd_ok c4
    refine lv_aload_n hx hb dX0_state_11 rfl (lv_at hl 0 rfl) ?_
    refine r0_get X hw 7 (by decide) q39 rfl rfl dX0_state_12 ?_
    refine lv_iload_n hx hb dX0_state_15 rfl (lv_at hl 1 rfl) ?_
    refine r0_ald X hw 6 (k := 7) rfl k ek hk dX0_state_16 ?_
    exact hret _ _ _ _ _ _ dX0_state_17 rfl ⟨by rw [qu, if_pos c4, ek, cn_nI (by omega)], rfl⟩ hw
  · refine lv_iconst (v := (-1)) hx hb dX0_state_7 (by decide) ?_
    refine lv_goto (tgt := 17) hx hb dX0_state_8 (by decide) ?_
    exact hret _ _ _ _ _ _ dX0_state_17 rfl ⟨by rw [qu, if_neg c4], rfl⟩ hw

set_option maxHeartbeats 4000000 in
theorem k0_value (l : Launch) (σ : St) (x : Int32)  : Ci0 l yX0_value cX0_value 2 .int 1 20 [.int x] σ (fun r u => r = qu 8 σ x ∧ u = σ) := by
  refine e0_i (by decide) rfl (fun _ => Nat.le_of_ble_eq_true rfl) ?_
  intro pG eN R sT mD aR bL mT cD Q dC dI A oA qA dA hR X hA hret ls hl hw
  have hx := X.1.1
  have hb := X.1.2.1
  have hl : lv_has ls 2 [(0, .ref oA), (1, .int x)] := hl
  refine lv_iload_n hx hb dX0_value_0 rfl (lv_at hl 1 rfl) ?_
  refine x_bad X (by rw [hR]; exact ⟨Nat.le_of_ble_eq_true rfl, Nat.le_of_ble_eq_true rfl⟩) hl.1 (Nat.le_of_ble_eq_true rfl) dX0_value_1 ⟨Nat.zero_le _, Nat.zero_le _⟩ ?_
  refine lv_if_eq (tgt := 11) hx hb dX0_value_4 (by decide) (fun c4 => ?_) (fun c4 => ?_)
  · obtain ⟨k, hk, ek⟩ := bd_ok c4
    refine lv_aload_n hx hb dX0_value_11 rfl (lv_at hl 0 rfl) ?_
    refine r0_get X hw 8 (by decide) q40 rfl rfl dX0_value_12 ?_
    refine lv_iload_n hx hb dX0_value_15 rfl (lv_at hl 1 rfl) ?_
    refine r0_ald X hw 7 (k := 8) rfl k ek hk dX0_value_16 ?_
    exact hret _ _ _ _ _ _ dX0_value_17 rfl ⟨by rw [qu, if_pos c4, ek, cn_nI (by omega)], rfl⟩ hw
  · refine lv_iconst (v := (-1)) hx hb dX0_value_7 (by decide) ?_
    refine lv_goto (tgt := 17) hx hb dX0_value_8 (by decide) ?_
    exact hret _ _ _ _ _ _ dX0_value_17 rfl ⟨by rw [qu, if_neg c4], rfl⟩ hw

set_option maxHeartbeats 4000000 in
theorem k0_depth (l : Launch) (σ : St) (x : Int32)  : Ci0 l yX0_depth cX0_depth 2 .int 1 20 [.int x] σ (fun r u => r = qu 10 σ x ∧ u = σ) := by
  refine e0_i (by decide) rfl (fun _ => Nat.le_of_ble_eq_true rfl) ?_
  intro pG eN R sT mD aR bL mT cD Q dC dI A oA qA dA hR X hA hret ls hl hw
  have hx := X.1.1
  have hb := X.1.2.1
  have hl : lv_has ls 2 [(0, .ref oA), (1, .int x)] := hl
  refine lv_iload_n hx hb dX0_depth_0 rfl (lv_at hl 1 rfl) ?_
  refine x_bad X (by rw [hR]; exact ⟨Nat.le_of_ble_eq_true rfl, Nat.le_of_ble_eq_true rfl⟩) hl.1 (Nat.le_of_ble_eq_true rfl) dX0_depth_1 ⟨Nat.zero_le _, Nat.zero_le _⟩ ?_
  refine lv_if_eq (tgt := 11) hx hb dX0_depth_4 (by decide) (fun c4 => ?_) (fun c4 => ?_)
  · obtain ⟨k, hk, ek⟩ := bd_ok c4
    refine lv_aload_n hx hb dX0_depth_11 rfl (lv_at hl 0 rfl) ?_
    refine r0_get X hw 10 (by decide) q42 rfl rfl dX0_depth_12 ?_
    refine lv_iload_n hx hb dX0_depth_15 rfl (lv_at hl 1 rfl) ?_
    refine r0_ald X hw 9 (k := 10) rfl k ek hk dX0_depth_16 ?_
    exact hret _ _ _ _ _ _ dX0_depth_17 rfl ⟨by rw [qu, if_pos c4, ek, cn_nI (by omega)], rfl⟩ hw
  · refine lv_iconst (v := (-1)) hx hb dX0_depth_7 (by decide) ?_
    refine lv_goto (tgt := 17) hx hb dX0_depth_8 (by decide) ?_
    exact hret _ _ _ _ _ _ dX0_depth_17 rfl ⟨by rw [qu, if_neg c4], rfl⟩ hw

set_option maxHeartbeats 4000000 in
theorem k0_steps (l : Launch) (σ : St) (x : Int32)  : Ci0 l yX0_steps cX0_steps 2 .int 1 20 [.int x] σ (fun r u => r = qu 9 σ x ∧ u = σ) := by
  refine e0_i (by decide) rfl (fun _ => Nat.le_of_ble_eq_true rfl) ?_
  intro pG eN R sT mD aR bL mT cD Q dC dI A oA qA dA hR X hA hret ls hl hw
  have hx := X.1.1
  have hb := X.1.2.1
  have hl : lv_has ls 2 [(0, .ref oA), (1, .int x)] := hl
  refine lv_iload_n hx hb dX0_steps_0 rfl (lv_at hl 1 rfl) ?_
  refine x_bad X (by rw [hR]; exact ⟨Nat.le_of_ble_eq_true rfl, Nat.le_of_ble_eq_true rfl⟩) hl.1 (Nat.le_of_ble_eq_true rfl) dX0_steps_1 ⟨Nat.zero_le _, Nat.zero_le _⟩ ?_
  refine lv_if_eq (tgt := 11) hx hb dX0_steps_4 (by decide) (fun c4 => ?_) (fun c4 => ?_)
  · obtain ⟨k, hk, ek⟩ := bd_ok c4
    refine lv_aload_n hx hb dX0_steps_11 rfl (lv_at hl 0 rfl) ?_
    refine r0_get X hw 9 (by decide) q41 rfl rfl dX0_steps_12 ?_
    refine lv_iload_n hx hb dX0_steps_15 rfl (lv_at hl 1 rfl) ?_
    refine r0_ald X hw 8 (k := 9) rfl k ek hk dX0_steps_16 ?_
    exact hret _ _ _ _ _ _ dX0_steps_17 rfl ⟨by rw [qu, if_pos c4, ek, cn_nI (by omega)], rfl⟩ hw
  · refine lv_iconst (v := (-1)) hx hb dX0_steps_7 (by decide) ?_
    refine lv_goto (tgt := 17) hx hb dX0_steps_8 (by decide) ?_
    exact hret _ _ _ _ _ _ dX0_steps_17 rfl ⟨by rw [qu, if_neg c4], rfl⟩ hw

set_option maxHeartbeats 4000000 in
theorem k0_alike (l : Launch) (σ : St) (x y : Int32)  : Ci0 l yX0_alike cX0_alike 3 .boolean 1 20 [.int x, .int y] σ (fun r u => r = al 7 8 σ x y ∧ u = σ) := by
  refine e0_i (by decide) rfl (fun _ => Nat.le_of_ble_eq_true rfl) ?_
  intro pG eN R sT mD aR bL mT cD Q dC dI A oA qA dA hR X hA hret ls hl hw
  have hx := X.1.1
  have hb := X.1.2.1
  have hl : lv_has ls 3 [(0, .ref oA), (1, .int x), (2, .int y)] := hl
  refine lv_iload_n hx hb dX0_alike_0 rfl (lv_at hl 1 rfl) ?_
  refine x_bad X (by rw [hR]; exact ⟨Nat.le_of_ble_eq_true rfl, Nat.le_of_ble_eq_true rfl⟩) hl.1 (Nat.le_of_ble_eq_true rfl) dX0_alike_1 ⟨Nat.zero_le _, Nat.zero_le _⟩ ?_
  refine lv_if_ne (tgt := 14) hx hb dX0_alike_4 (by decide) (fun c4 => ?_) (fun c4 => ?_)
  · refine lv_iconst (v := 0) hx hb dX0_alike_14 (by decide) ?_
    exact hret _ _ _ _ _ _ dX0_alike_15 rfl ⟨by rw [al, if_neg c4], rfl⟩ hw
  · obtain ⟨k, hk, ek⟩ := bd_ok c4
    refine lv_iload_n hx hb dX0_alike_7 rfl (lv_at hl 2 rfl) ?_
    refine x_bad X (by rw [hR]; exact ⟨Nat.le_of_ble_eq_true rfl, Nat.le_of_ble_eq_true rfl⟩) hl.1 (Nat.le_of_ble_eq_true rfl) dX0_alike_8 ⟨Nat.zero_le _, Nat.zero_le _⟩ ?_
    refine lv_if_eq (tgt := 16) hx hb dX0_alike_11 (by decide) (fun c11 => ?_) (fun c11 => ?_)
    · obtain ⟨j, hj, ej⟩ := bd_ok c11
      refine lv_aload_n hx hb dX0_alike_16 rfl (lv_at hl 0 rfl) ?_
      refine r0_get X hw 7 (by decide) q39 rfl rfl dX0_alike_17 ?_
      refine lv_iload_n hx hb dX0_alike_20 rfl (lv_at hl 1 rfl) ?_
      refine r0_ald X hw 6 (k := 7) rfl k ek hk dX0_alike_21 ?_
      refine lv_aload_n hx hb dX0_alike_22 rfl (lv_at hl 0 rfl) ?_
      refine r0_get X hw 7 (by decide) q39 rfl rfl dX0_alike_23 ?_
      refine lv_iload_n hx hb dX0_alike_26 rfl (lv_at hl 2 rfl) ?_
      refine r0_ald X hw 6 (k := 7) rfl j ej hj dX0_alike_27 ?_
      refine lv_icmp_ne (tgt := 50) hx hb dX0_alike_28 (by decide) (fun c28 => ?_) (fun c28 => ?_)
      · refine lv_iconst (v := 0) hx hb dX0_alike_50 (by decide) ?_
        exact hret _ _ _ _ _ _ dX0_alike_51 rfl ⟨by rw [al, if_pos c4, if_pos c11, ek, ej, cn_nI (by omega), cn_nI (by omega), if_neg c28], rfl⟩ hw
      · refine lv_aload_n hx hb dX0_alike_31 rfl (lv_at hl 0 rfl) ?_
        refine r0_get X hw 8 (by decide) q40 rfl rfl dX0_alike_32 ?_
        refine lv_iload_n hx hb dX0_alike_35 rfl (lv_at hl 1 rfl) ?_
        refine r0_ald X hw 7 (k := 8) rfl k ek hk dX0_alike_36 ?_
        refine lv_aload_n hx hb dX0_alike_37 rfl (lv_at hl 0 rfl) ?_
        refine r0_get X hw 8 (by decide) q40 rfl rfl dX0_alike_38 ?_
        refine lv_iload_n hx hb dX0_alike_41 rfl (lv_at hl 2 rfl) ?_
        refine r0_ald X hw 7 (k := 8) rfl j ej hj dX0_alike_42 ?_
        refine lv_icmp_ne (tgt := 50) hx hb dX0_alike_43 (by decide) (fun c43 => ?_) (fun c43 => ?_)
        · refine lv_iconst (v := 0) hx hb dX0_alike_50 (by decide) ?_
          exact hret _ _ _ _ _ _ dX0_alike_51 rfl ⟨by rw [al, if_pos c4, if_pos c11, ek, ej, cn_nI (by omega), cn_nI (by omega), if_pos c28, if_neg c43], rfl⟩ hw
        · refine lv_iconst (v := 1) hx hb dX0_alike_46 (by decide) ?_
          refine lv_goto (tgt := 51) hx hb dX0_alike_47 (by decide) ?_
          exact hret _ _ _ _ _ _ dX0_alike_51 rfl ⟨by rw [al, if_pos c4, if_pos c11, ek, ej, cn_nI (by omega), cn_nI (by omega), if_pos c28, if_pos c43], rfl⟩ hw
    · refine lv_iconst (v := 0) hx hb dX0_alike_14 (by decide) ?_
      exact hret _ _ _ _ _ _ dX0_alike_15 rfl ⟨by rw [al, if_pos c4, if_neg c11], rfl⟩ hw

set_option maxHeartbeats 4000000 in
theorem k0_drop (l : Launch) (σ : St) (x : Int32)  : Ci0 l yX0_drop cX0_drop 3 .int 1 23 [.int x] σ (fun r u => r = (dr0 σ x).1 ∧ u = (dr0 σ x).2) := by
  refine e0_i (by decide) rfl (fun _ => Nat.le_of_ble_eq_true rfl) ?_
  intro pG eN R sT mD aR bL mT cD Q dC dI A oA qA dA hR X hA hret ls hl hw
  have hx := X.1.1
  have hb := X.1.2.1
  have hl : lv_has ls 3 [(0, .ref oA), (1, .int x)] := hl
  refine lv_iload_n hx hb dX0_drop_0 rfl (lv_at hl 1 rfl) ?_
  refine x_bad X (by rw [hR]; exact ⟨Nat.le_of_ble_eq_true rfl, Nat.le_of_ble_eq_true rfl⟩) hl.1 (Nat.le_of_ble_eq_true rfl) dX0_drop_1 ⟨Nat.zero_le _, Nat.zero_le _⟩ ?_
  refine lv_if_eq (tgt := 9) hx hb dX0_drop_4 (by decide) (fun c4 => ?_) (fun c4 => ?_)
  · obtain ⟨k, hk, rfl⟩ := bd_ok c4
    refine lv_aload_n hx hb dX0_drop_9 rfl (lv_at hl 0 rfl) ?_
    refine r0_get X hw 7 (by decide) q39 rfl rfl dX0_drop_10 ?_
    refine lv_iload_n hx hb dX0_drop_13 rfl (lv_at hl 1 rfl) ?_
    refine r0_ald X hw 6 (k := 7) rfl k rfl (show k < _ by first | assumption | (simp only [fl0]; omega)) dX0_drop_14 ?_
    refine lv_istore_n (lv' := [(2, .int (σ 7 k)), (0, .ref oA), (1, .int (nI k))]) hx hb dX0_drop_15 rfl hl (by decide) rfl (fun ls hl => ?_)
    refine lv_aload_n hx hb dX0_drop_16 rfl (lv_at hl 1 rfl) ?_
    refine lv_iload_n hx hb dX0_drop_17 rfl (lv_at hl 2 rfl) ?_
    refine lv_iconst (v := 0) hx hb dX0_drop_18 (by decide) ?_
    refine lv_iconst (v := 0) hx hb dX0_drop_19 (by decide) ?_
    refine r0_callv (rest := []) 3 X hA hw (k0_finish l σ k 0 0 hk) (lw_V q144 q146 qs11 q22 q147) (by decide +kernel) rfl (by rw [hR]; exact ⟨Nat.le_of_ble_eq_true rfl, Nat.le_of_ble_eq_true rfl⟩) hl.1 rfl (Nat.le_of_ble_eq_true rfl) dX0_drop_20 ⟨Nat.zero_le _, Nat.zero_le _⟩ (fun u H locs hu hw _ _ => ?_)
    rw [hu] at hw
    refine lv_aload_n hx hb dX0_drop_23 rfl (lv_at hl 1 rfl) ?_
    refine r0_get X hw 9 (by decide) q41 rfl rfl dX0_drop_24 ?_
    refine lv_iload_n hx hb dX0_drop_27 rfl (lv_at hl 2 rfl) ?_
    refine lv_iconst (v := 0) hx hb dX0_drop_28 (by decide) ?_
    refine r0_ast X hw 8 (k := 9) rfl k rfl (show k < _ by first | assumption | (simp only [fl0]; omega)) dX0_drop_29 (fun H locs hw => ?_)
    refine lv_iload_n hx hb dX0_drop_30 rfl (lv_at hl 0 rfl) ?_
    exact hret _ _ _ _ _ _ dX0_drop_31 rfl ⟨by rw [dr0, if_pos c4, cn_nI (by omega)], by rw [dr0, if_pos c4, cn_nI (by omega)]⟩ hw
  · refine lv_iconst (v := (-1)) hx hb dX0_drop_7 (by decide) ?_
    exact hret _ _ _ _ _ _ dX0_drop_8 rfl ⟨by rw [dr0, if_neg c4], by rw [dr0, if_neg c4]⟩ hw

set_option maxHeartbeats 4000000 in
theorem k0_start (l : Launch) (σ : St) (x f v : Int32)  : Ci0 l yX0_start cX0_start 4 .int 1 20 [.int x, .int f, .int v] σ (fun r u => r = (st0 σ x f v).1 ∧ u = (st0 σ x f v).2) := by
  refine e0_i (by decide) rfl (fun _ => Nat.le_of_ble_eq_true rfl) ?_
  intro pG eN R sT mD aR bL mT cD Q dC dI A oA qA dA hR X hA hret ls hl hw
  have hx := X.1.1
  have hb := X.1.2.1
  have hl : lv_has ls 4 [(0, .ref oA), (1, .int x), (2, .int f), (3, .int v)] := hl
  refine lv_iload_n hx hb dX0_start_0 rfl (lv_at hl 1 rfl) ?_
  refine x_bad X (by rw [hR]; exact ⟨Nat.le_of_ble_eq_true rfl, Nat.le_of_ble_eq_true rfl⟩) hl.1 (Nat.le_of_ble_eq_true rfl) dX0_start_1 ⟨Nat.zero_le _, Nat.zero_le _⟩ ?_
  refine lv_if_ne (tgt := 16) hx hb dX0_start_4 (by decide) (fun c4 => ?_) (fun c4 => ?_)
  · refine lv_iconst (v := (-1)) hx hb dX0_start_16 (by decide) ?_
    exact hret _ _ _ _ _ _ dX0_start_17 rfl ⟨by rw [st0, if_neg c4], by rw [st0, if_neg c4]⟩ hw
  · obtain ⟨k, hk, rfl⟩ := bd_ok c4
    refine lv_iload_n hx hb dX0_start_7 rfl (lv_at hl 2 rfl) ?_
    refine lv_if_lt (tgt := 16) hx hb dX0_start_8 (by decide) (fun c8 => ?_) (fun c8 => ?_)
    · refine lv_iconst (v := (-1)) hx hb dX0_start_16 (by decide) ?_
      exact hret _ _ _ _ _ _ dX0_start_17 rfl ⟨by rw [st0, if_pos c4, if_pos c8], by rw [st0, if_pos c4, if_pos c8]⟩ hw
    · refine lv_iload_n hx hb dX0_start_11 rfl (lv_at hl 2 rfl) ?_
      refine lv_iconst (v := 3) hx hb dX0_start_12 (by decide) ?_
      refine lv_icmp_lt (tgt := 18) hx hb dX0_start_13 (by decide) (fun c13 => ?_) (fun c13 => ?_)
      · refine lv_aload_n hx hb dX0_start_18 rfl (lv_at hl 0 rfl) ?_
        refine r0_get X hw 7 (by decide) q39 rfl rfl dX0_start_19 ?_
        refine lv_iload_n hx hb dX0_start_22 rfl (lv_at hl 1 rfl) ?_
        refine lv_iconst (v := 1) hx hb dX0_start_23 (by decide) ?_
        refine r0_ast X hw 6 (k := 7) rfl k rfl (show k < _ by first | assumption | (simp only [fl0]; omega)) dX0_start_24 (fun H locs hw => ?_)
        refine lv_aload_n hx hb dX0_start_25 rfl (lv_at hl 0 rfl) ?_
        refine r0_get X hw 8 (by decide) q40 rfl rfl dX0_start_26 ?_
        refine lv_iload_n hx hb dX0_start_29 rfl (lv_at hl 1 rfl) ?_
        refine lv_iconst (v := 0) hx hb dX0_start_30 (by decide) ?_
        refine r0_ast X hw 7 (k := 8) rfl k rfl (show k < _ by first | assumption | (simp only [fl0]; omega)) dX0_start_31 (fun H locs hw => ?_)
        refine lv_aload_n hx hb dX0_start_32 rfl (lv_at hl 0 rfl) ?_
        refine r0_get X hw 9 (by decide) q41 rfl rfl dX0_start_33 ?_
        refine lv_iload_n hx hb dX0_start_36 rfl (lv_at hl 1 rfl) ?_
        refine lv_iconst (v := 0) hx hb dX0_start_37 (by decide) ?_
        refine r0_ast X hw 8 (k := 9) rfl k rfl (show k < _ by first | assumption | (simp only [fl0]; omega)) dX0_start_38 (fun H locs hw => ?_)
        refine lv_aload_n hx hb dX0_start_39 rfl (lv_at hl 0 rfl) ?_
        refine r0_get X hw 10 (by decide) q42 rfl rfl dX0_start_40 ?_
        refine lv_iload_n hx hb dX0_start_43 rfl (lv_at hl 1 rfl) ?_
        refine lv_iconst (v := 1) hx hb dX0_start_44 (by decide) ?_
        refine r0_ast X hw 9 (k := 10) rfl k rfl (show k < _ by first | assumption | (simp only [fl0]; omega)) dX0_start_45 (fun H locs hw => ?_)
        refine lv_aload_n hx hb dX0_start_46 rfl (lv_at hl 0 rfl) ?_
        refine r0_get X hw 11 (by decide) q43 rfl rfl dX0_start_47 ?_
        refine lv_iload_n hx hb dX0_start_50 rfl (lv_at hl 1 rfl) ?_
        refine lv_iconst (v := nI 4) hx hb dX0_start_51 (by decide) ?_
        refine lv_imul hx hb dX0_start_52 ?_
        refine x_top (y := nI (k * 4)) (pk_mul _ _) ?_
        refine lv_iload_n hx hb dX0_start_53 rfl (lv_at hl 2 rfl) ?_
        refine r0_ast X hw 10 (k := 11) rfl (k * 4) rfl (show (k * 4) < _ by first | assumption | (simp only [fl0]; omega)) dX0_start_54 (fun H locs hw => ?_)
        refine lv_aload_n hx hb dX0_start_55 rfl (lv_at hl 0 rfl) ?_
        refine r0_get X hw 12 (by decide) q44 rfl rfl dX0_start_56 ?_
        refine lv_iload_n hx hb dX0_start_59 rfl (lv_at hl 1 rfl) ?_
        refine lv_iconst (v := nI 4) hx hb dX0_start_60 (by decide) ?_
        refine lv_imul hx hb dX0_start_61 ?_
        refine x_top (y := nI (k * 4)) (pk_mul _ _) ?_
        refine lv_iconst (v := (-1)) hx hb dX0_start_62 (by decide) ?_
        refine r0_ast X hw 11 (k := 12) rfl (k * 4) rfl (show (k * 4) < _ by first | assumption | (simp only [fl0]; omega)) dX0_start_63 (fun H locs hw => ?_)
        refine lv_aload_n hx hb dX0_start_64 rfl (lv_at hl 0 rfl) ?_
        refine r0_get X hw 13 (by decide) q45 rfl rfl dX0_start_65 ?_
        refine lv_iload_n hx hb dX0_start_68 rfl (lv_at hl 1 rfl) ?_
        refine lv_iconst (v := nI 4) hx hb dX0_start_69 (by decide) ?_
        refine lv_imul hx hb dX0_start_70 ?_
        refine x_top (y := nI (k * 4)) (pk_mul _ _) ?_
        refine lv_iconst (v := nI 4) hx hb dX0_start_71 (by decide) ?_
        refine lv_imul hx hb dX0_start_72 ?_
        refine x_top (y := nI (k * 4 * 4)) (pk_mul _ _) ?_
        refine lv_iload_n hx hb dX0_start_73 rfl (lv_at hl 3 rfl) ?_
        refine r0_ast X hw 12 (k := 13) rfl (k * 4 * 4) rfl (show (k * 4 * 4) < _ by first | assumption | (simp only [fl0]; omega)) dX0_start_74 (fun H locs hw => ?_)
        refine lv_iconst (v := 0) hx hb dX0_start_75 (by decide) ?_
        exact hret _ _ _ _ _ _ dX0_start_76 rfl ⟨by rw [st0, if_pos c4, if_neg c8, if_pos c13], by rw [st0, if_pos c4, if_neg c8, if_pos c13, cn_nI (by omega)]; rfl⟩ hw
      · refine lv_iconst (v := (-1)) hx hb dX0_start_16 (by decide) ?_
        exact hret _ _ _ _ _ _ dX0_start_17 rfl ⟨by rw [st0, if_pos c4, if_neg c8, if_neg c13], by rw [st0, if_pos c4, if_neg c8, if_neg c13]⟩ hw
end
section
set_option maxRecDepth 100000

/-- the program and the analysis are the same -/
def sm (σ σ' : St) : Prop := σ' 0 = σ 0 ∧ σ' 1 = σ 1 ∧ σ' 2 = σ 2 ∧ σ' 3 = σ 3 ∧ σ' 4 = σ 4 ∧ σ' 6 = σ 6
theorem rdA_sm {σ σ' : St} (h : sm σ σ') (f : Nat) (P : Int32) : rdA σ' f P = rdA σ f P := by
  obtain ⟨h0, h1, h2, h3, h4, h6⟩ := h
  simp only [rdA, h0, h6]
theorem kp_sm {σ σ' : St} (h : sm σ σ') (f p : Nat) : kp σ' f p = kp σ f p := by
  have hr := rdA_sm h
  obtain ⟨h0, h1, h2, h3, h4, h6⟩ := h
  simp only [kp, hr, h1, h2, h3]
theorem rdB_sm {σ σ' : St} (h : sm σ σ') (f p : Nat) : rdB σ' f p = rdB σ f p := by
  have hr := rdA_sm h
  obtain ⟨h0, h1, h2, h3, h4, h6⟩ := h
  simp only [rdB, hr, h1, h2, h3, h4]
theorem szw_sm {σ σ' : St} (h : sm σ σ') (hz : szw σ) : szw σ' := by
  intro f
  rw [h.1]
  exact hz f
theorem rk_le (k : Int32) : ∀ r, rk k r ≤ r
  | 0 => Nat.le_refl 0
  | r + 1 => by
    have := rk_le k r
    unfold rk
    split <;> omega
theorem sm_rf (σ : St) : sm σ σ := ⟨rfl, rfl, rfl, rfl, rfl, rfl⟩
theorem sm.tr {σ σ' σ'' : St} (h : sm σ σ') (h' : sm σ' σ'') : sm σ σ'' := ⟨h'.1.trans h.1, h'.2.1.trans h.2.1, h'.2.2.1.trans h.2.2.1, h'.2.2.2.1.trans h.2.2.2.1, h'.2.2.2.2.1.trans h.2.2.2.2.1, h'.2.2.2.2.2.trans h.2.2.2.2.2⟩
theorem sm_su {σ σ' : St} {k i : Nat} {v : Int32} (h : sm σ σ') (hk : 6 < k) : sm σ (su σ' k i v) := by
  refine h.tr ⟨su_ne ?_, su_ne ?_, su_ne ?_, su_ne ?_, su_ne ?_, su_ne ?_⟩ <;> omega
theorem sm_zrL (σ : St) : ∀ r, sm σ (zrL σ r)
  | 0 => sm_rf σ
  | r + 1 => sm_su (sm_zrL σ r) (by decide)
theorem sm_pkL (σ : St) (k : Int32) (g : Nat) : ∀ r, sm σ (pkL σ k g r)
  | 0 => sm_rf σ
  | r + 1 => by
    unfold pkL
    split
    · exact sm_su (sm_pkL σ k g r) (by decide)
    · exact sm_pkL σ k g r
theorem sm_unL (σ : St) (k : Int32) (g : Nat) : ∀ r, sm σ (unL σ k g r)
  | 0 => sm_rf σ
  | r + 1 => by
    unfold unL
    split
    · exact sm_su (sm_unL σ k g r) (by decide)
    · exact sm_unL σ k g r
theorem sm_up1 (σ : St) (g : Nat) : sm σ (up1 σ g) := (sm_su (sm_su (sm_rf σ) (by decide)) (by decide)).tr (sm_zrL _ 4)
theorem sm_up0 (σ : St) (g : Nat) : sm σ (up0 σ g) := by
  unfold up0
  split
  · exact sm_su (sm_up1 σ g) (by decide)
  · exact (sm_up1 σ g).tr (sm_unL _ _ _ 4)
theorem sm_pk (σ : St) (g f p : Nat) : sm σ (pk σ g f p) := (sm_su (sm_su (sm_rf σ) (by decide)) (by decide)).tr (sm_pkL _ _ _ 4)

set_option maxHeartbeats 4000000 in
theorem k0_readsBefore (l : Launch) (σ : St) (f p : Nat) (hf : f < 3) (hp : p < 8) (hsz : szw σ) : Ci0 l yX0_readsBefore cX0_readsBefore 7 .int 1 22 [.int (nI f), .int (nI p)] σ (fun r u => r = rdB σ f p ∧ u = σ) := by
  refine e0_i (by decide) rfl (fun _ => Nat.le_of_ble_eq_true rfl) ?_
  intro pG eN R sT mD aR bL mT cD Q dC dI A oA qA dA hR X hA hret ls hl hw
  have hx := X.1.1
  have hb := X.1.2.1
  have hl : lv_has ls 7 [(0, .ref oA), (1, .int (nI f)), (2, .int (nI p))] := hl
  refine lv_iload_n hx hb dX0_readsBefore_0 rfl (lv_at hl 1 rfl) ?_
  refine lv_bipush (v := nI 8) hx hb dX0_readsBefore_1 (by decide) ?_
  refine lv_imul hx hb dX0_readsBefore_3 ?_
  refine lv_iload_n hx hb dX0_readsBefore_4 rfl (lv_at hl 2 rfl) ?_
  refine lv_iadd hx hb dX0_readsBefore_5 ?_
  refine x_top (y := nI (f * 8 + p)) (by rw [pk_mul, nI_add]) ?_
  refine lv_istore_n (lv' := [(3, .int (nI (f * 8 + p))), (0, .ref oA), (1, .int (nI f)), (2, .int (nI p))]) hx hb dX0_readsBefore_6 rfl hl (by decide) rfl (fun ls hl => ?_)
  refine lv_iconst (v := 1) hx hb dX0_readsBefore_7 (by decide) ?_
  refine lv_aload_n hx hb dX0_readsBefore_8 rfl (lv_at hl 1 rfl) ?_
  refine r0_get X hw 2 (by decide) q34 rfl rfl dX0_readsBefore_9 ?_
  refine lv_iload_n hx hb dX0_readsBefore_12 rfl (lv_at hl 0 rfl) ?_
  refine r0_ald X hw 2 (k := 2) rfl (f * 8 + p) rfl (show (f * 8 + p) < _ by first | assumption | (simp only [fl0]; omega)) dX0_readsBefore_13 ?_
  refine lv_ishl hx hb dX0_readsBefore_14 ?_
  refine x_top (y := bm (σ 2 (f * 8 + p))) rfl ?_
  refine lv_istore (lv' := [(4, .int (bm (σ 2 (f * 8 + p)))), (3, .int (nI (f * 8 + p))), (0, .ref oA), (1, .int (nI f)), (2, .int (nI p))]) hx hb dX0_readsBefore_15 hl (by decide) rfl (fun ls hl => ?_)
  refine lv_iconst (v := 1) hx hb dX0_readsBefore_17 (by decide) ?_
  refine lv_aload_n hx hb dX0_readsBefore_18 rfl (lv_at hl 2 rfl) ?_
  refine r0_get X hw 3 (by decide) q35 rfl rfl dX0_readsBefore_19 ?_
  refine lv_iload_n hx hb dX0_readsBefore_22 rfl (lv_at hl 1 rfl) ?_
  refine r0_ald X hw 3 (k := 3) rfl (f * 8 + p) rfl (show (f * 8 + p) < _ by first | assumption | (simp only [fl0]; omega)) dX0_readsBefore_23 ?_
  refine lv_ishl hx hb dX0_readsBefore_24 ?_
  refine x_top (y := bm (σ 3 (f * 8 + p))) rfl ?_
  refine lv_istore (lv' := [(5, .int (bm (σ 3 (f * 8 + p)))), (4, .int (bm (σ 2 (f * 8 + p)))), (3, .int (nI (f * 8 + p))), (0, .ref oA), (1, .int (nI f)), (2, .int (nI p))]) hx hb dX0_readsBefore_25 hl (by decide) rfl (fun ls hl => ?_)
  refine lv_aload_n hx hb dX0_readsBefore_27 rfl (lv_at hl 3 rfl) ?_
  refine lv_iload_n hx hb dX0_readsBefore_28 rfl (lv_at hl 4 rfl) ?_
  refine lv_iload_n hx hb dX0_readsBefore_29 rfl (lv_at hl 5 rfl) ?_
  refine lv_iconst (v := 1) hx hb dX0_readsBefore_30 (by decide) ?_
  refine lv_iadd hx hb dX0_readsBefore_31 ?_
  refine x_top (y := nI (p + 1)) (nI_1 _) ?_
  refine r0_calli (rest := []) 2 X hA hw (k0_readsAt l σ f (nI (p + 1)) hf hsz) (lw_V q116 q118 qs4 q22 q119) (by decide +kernel) rfl (by rw [hR]; exact ⟨Nat.le_of_ble_eq_true rfl, Nat.le_of_ble_eq_true rfl⟩) hl.1 rfl (Nat.le_of_ble_eq_true rfl) dX0_readsBefore_32 ⟨Nat.zero_le _, Nat.zero_le _⟩ (fun r u H locs hu hw _ _ => ?_)
  obtain ⟨er, hu⟩ := hu
  rw [hu] at hw
  rw [er]
  refine lv_istore (lv' := [(6, .int (rdA σ f (nI (p + 1)))), (5, .int (bm (σ 3 (f * 8 + p)))), (4, .int (bm (σ 2 (f * 8 + p)))), (3, .int (nI (f * 8 + p))), (0, .ref oA), (1, .int (nI f)), (2, .int (nI p))]) hx hb dX0_readsBefore_35 hl (by decide) rfl (fun ls hl => ?_)
  refine lv_aload_n hx hb dX0_readsBefore_37 rfl (lv_at hl 4 rfl) ?_
  refine r0_get X hw 1 (by decide) q33 rfl rfl dX0_readsBefore_38 ?_
  refine lv_iload_n hx hb dX0_readsBefore_41 rfl (lv_at hl 3 rfl) ?_
  refine r0_ald X hw 1 (k := 1) rfl (f * 8 + p) rfl (show (f * 8 + p) < _ by first | assumption | (simp only [fl0]; omega)) dX0_readsBefore_42 ?_
  by_cases o0 : σ 1 (f * 8 + p) = 0
  · refine lv_tableIn (tgt := 84) (off := 41) hx hb dX0_readsBefore_43 (by rw [o0]; decide) (by rw [o0]; decide) (by rw [o0]; rfl) (by decide) ?_
    refine lv_iload hx hb dX0_readsBefore_84 (lv_at hl 0 rfl) ?_
    refine lv_iload hx hb dX0_readsBefore_86 (lv_at hl 2 rfl) ?_
    refine lv_iconst (v := (-1)) hx hb dX0_readsBefore_88 (by decide) ?_
    refine lv_ixor hx hb dX0_readsBefore_89 ?_
    refine lv_iand hx hb dX0_readsBefore_90 ?_
    exact hret _ _ _ _ _ _ dX0_readsBefore_91 rfl ⟨by rw [rdB, if_pos o0], rfl⟩ hw
  by_cases o1 : σ 1 (f * 8 + p) = 1
  · refine lv_tableIn (tgt := 92) (off := 49) hx hb dX0_readsBefore_43 (by rw [o1]; decide) (by rw [o1]; decide) (by rw [o1]; rfl) (by decide) ?_
    refine lv_iload hx hb dX0_readsBefore_92 (lv_at hl 0 rfl) ?_
    refine lv_iload hx hb dX0_readsBefore_94 (lv_at hl 2 rfl) ?_
    refine lv_ior hx hb dX0_readsBefore_96 ?_
    refine lv_iload hx hb dX0_readsBefore_97 (lv_at hl 1 rfl) ?_
    refine lv_ior hx hb dX0_readsBefore_99 ?_
    exact hret _ _ _ _ _ _ dX0_readsBefore_100 rfl ⟨by rw [rdB, if_neg o0, if_pos o1], rfl⟩ hw
  by_cases o2 : σ 1 (f * 8 + p) = 2
  · refine lv_tableIn (tgt := 92) (off := 49) hx hb dX0_readsBefore_43 (by rw [o2]; decide) (by rw [o2]; decide) (by rw [o2]; rfl) (by decide) ?_
    refine lv_iload hx hb dX0_readsBefore_92 (lv_at hl 0 rfl) ?_
    refine lv_iload hx hb dX0_readsBefore_94 (lv_at hl 2 rfl) ?_
    refine lv_ior hx hb dX0_readsBefore_96 ?_
    refine lv_iload hx hb dX0_readsBefore_97 (lv_at hl 1 rfl) ?_
    refine lv_ior hx hb dX0_readsBefore_99 ?_
    exact hret _ _ _ _ _ _ dX0_readsBefore_100 rfl ⟨by rw [rdB, if_neg o0, if_neg o1, if_pos o2], rfl⟩ hw
  by_cases o3 : σ 1 (f * 8 + p) = 3
  · refine lv_tableIn (tgt := 101) (off := 58) hx hb dX0_readsBefore_43 (by rw [o3]; decide) (by rw [o3]; decide) (by rw [o3]; rfl) (by decide) ?_
    refine lv_aload_n hx hb dX0_readsBefore_101 rfl (lv_at hl 4 rfl) ?_
    refine lv_iload_n hx hb dX0_readsBefore_102 rfl (lv_at hl 5 rfl) ?_
    refine lv_aload_n hx hb dX0_readsBefore_103 rfl (lv_at hl 4 rfl) ?_
    refine r0_get X hw 4 (by decide) q36 rfl rfl dX0_readsBefore_104 ?_
    refine lv_iload_n hx hb dX0_readsBefore_107 rfl (lv_at hl 3 rfl) ?_
    refine r0_ald X hw 4 (k := 4) rfl (f * 8 + p) rfl (show (f * 8 + p) < _ by first | assumption | (simp only [fl0]; omega)) dX0_readsBefore_108 ?_
    refine r0_calli (rest := []) 2 X hA hw (k0_readsAt l σ f (σ 4 (f * 8 + p)) hf hsz) (lw_V q116 q118 qs4 q22 q119) (by decide +kernel) rfl (by rw [hR]; exact ⟨Nat.le_of_ble_eq_true rfl, Nat.le_of_ble_eq_true rfl⟩) hl.1 rfl (Nat.le_of_ble_eq_true rfl) dX0_readsBefore_109 ⟨Nat.zero_le _, Nat.zero_le _⟩ (fun r u H locs hu hw _ _ => ?_)
    obtain ⟨er, hu⟩ := hu
    rw [hu] at hw
    rw [er]
    exact hret _ _ _ _ _ _ dX0_readsBefore_112 rfl ⟨by rw [rdB, if_neg o0, if_neg o1, if_neg o2, if_pos o3], rfl⟩ hw
  by_cases o4 : σ 1 (f * 8 + p) = 4
  · refine lv_tableIn (tgt := 113) (off := 70) hx hb dX0_readsBefore_43 (by rw [o4]; decide) (by rw [o4]; decide) (by rw [o4]; rfl) (by decide) ?_
    refine lv_iload hx hb dX0_readsBefore_113 (lv_at hl 0 rfl) ?_
    refine lv_iload hx hb dX0_readsBefore_115 (lv_at hl 2 rfl) ?_
    refine lv_ior hx hb dX0_readsBefore_117 ?_
    refine lv_aload_n hx hb dX0_readsBefore_118 rfl (lv_at hl 4 rfl) ?_
    refine lv_iload_n hx hb dX0_readsBefore_119 rfl (lv_at hl 5 rfl) ?_
    refine lv_aload_n hx hb dX0_readsBefore_120 rfl (lv_at hl 4 rfl) ?_
    refine r0_get X hw 4 (by decide) q36 rfl rfl dX0_readsBefore_121 ?_
    refine lv_iload_n hx hb dX0_readsBefore_124 rfl (lv_at hl 3 rfl) ?_
    refine r0_ald X hw 4 (k := 4) rfl (f * 8 + p) rfl (show (f * 8 + p) < _ by first | assumption | (simp only [fl0]; omega)) dX0_readsBefore_125 ?_
    refine r0_calli (rest := [.int ((rdA σ f (nI (p + 1))) ||| (bm (σ 2 (f * 8 + p))))]) 2 X hA hw (k0_readsAt l σ f (σ 4 (f * 8 + p)) hf hsz) (lw_V q116 q118 qs4 q22 q119) (by decide +kernel) rfl (by rw [hR]; exact ⟨Nat.le_of_ble_eq_true rfl, Nat.le_of_ble_eq_true rfl⟩) hl.1 rfl (Nat.le_of_ble_eq_true rfl) dX0_readsBefore_126 ⟨Nat.zero_le _, Nat.zero_le _⟩ (fun r u H locs hu hw _ _ => ?_)
    obtain ⟨er, hu⟩ := hu
    rw [hu] at hw
    rw [er]
    refine lv_ior hx hb dX0_readsBefore_129 ?_
    exact hret _ _ _ _ _ _ dX0_readsBefore_130 rfl ⟨by rw [rdB, if_neg o0, if_neg o1, if_neg o2, if_neg o3, if_pos o4], rfl⟩ hw
  by_cases o5 : σ 1 (f * 8 + p) = 5
  · refine lv_tableIn (tgt := 131) (off := 88) hx hb dX0_readsBefore_43 (by rw [o5]; decide) (by rw [o5]; decide) (by rw [o5]; rfl) (by decide) ?_
    refine lv_iload hx hb dX0_readsBefore_131 (lv_at hl 0 rfl) ?_
    refine lv_iload hx hb dX0_readsBefore_133 (lv_at hl 1 rfl) ?_
    refine lv_iconst (v := (-1)) hx hb dX0_readsBefore_135 (by decide) ?_
    refine lv_ixor hx hb dX0_readsBefore_136 ?_
    refine lv_iand hx hb dX0_readsBefore_137 ?_
    refine lv_iload hx hb dX0_readsBefore_138 (lv_at hl 2 rfl) ?_
    refine lv_ior hx hb dX0_readsBefore_140 ?_
    exact hret _ _ _ _ _ _ dX0_readsBefore_141 rfl ⟨by rw [rdB, if_neg o0, if_neg o1, if_neg o2, if_neg o3, if_neg o4, if_pos o5], rfl⟩ hw
  by_cases o6 : σ 1 (f * 8 + p) = 6
  · refine lv_tableIn (tgt := 142) (off := 99) hx hb dX0_readsBefore_43 (by rw [o6]; decide) (by rw [o6]; decide) (by rw [o6]; rfl) (by decide) ?_
    refine lv_iload hx hb dX0_readsBefore_142 (lv_at hl 0 rfl) ?_
    refine lv_iload hx hb dX0_readsBefore_144 (lv_at hl 2 rfl) ?_
    refine lv_ior hx hb dX0_readsBefore_146 ?_
    exact hret _ _ _ _ _ _ dX0_readsBefore_147 rfl ⟨by rw [rdB, if_neg o0, if_neg o1, if_neg o2, if_neg o3, if_neg o4, if_neg o5, if_pos o6], rfl⟩ hw
  have no0 := lv_neT o0 (show (0 : Int32).toInt = 0 by decide)
  have no1 := lv_neT o1 (show (1 : Int32).toInt = 1 by decide)
  have no2 := lv_neT o2 (show (2 : Int32).toInt = 2 by decide)
  have no3 := lv_neT o3 (show (3 : Int32).toInt = 3 by decide)
  have no4 := lv_neT o4 (show (4 : Int32).toInt = 4 by decide)
  have no5 := lv_neT o5 (show (5 : Int32).toInt = 5 by decide)
  have no6 := lv_neT o6 (show (6 : Int32).toInt = 6 by decide)
  refine lv_tableOut (tgt := 148) hx hb dX0_readsBefore_43 (by omega) (by decide) ?_
  refine lv_iload hx hb dX0_readsBefore_148 (lv_at hl 2 rfl) ?_
  exact hret _ _ _ _ _ _ dX0_readsBefore_150 rfl ⟨by rw [rdB, if_neg o0, if_neg o1, if_neg o2, if_neg o3, if_neg o4, if_neg o5, if_neg o6], rfl⟩ hw

set_option maxHeartbeats 4000000 in
theorem k0_keptAt (l : Launch) (σ : St) (f p : Nat) (hf : f < 3) (hp : p < 8) (hsz : szw σ) : Ci0 l yX0_keptAt cX0_keptAt 6 .int 1 22 [.int (nI f), .int (nI p)] σ (fun r u => r = kp σ f p ∧ u = σ) := by
  refine e0_i (by decide) rfl (fun _ => Nat.le_of_ble_eq_true rfl) ?_
  intro pG eN R sT mD aR bL mT cD Q dC dI A oA qA dA hR X hA hret ls hl hw
  have hx := X.1.1
  have hb := X.1.2.1
  have hl : lv_has ls 6 [(0, .ref oA), (1, .int (nI f)), (2, .int (nI p))] := hl
  refine lv_iload_n hx hb dX0_keptAt_0 rfl (lv_at hl 1 rfl) ?_
  refine lv_bipush (v := nI 8) hx hb dX0_keptAt_1 (by decide) ?_
  refine lv_imul hx hb dX0_keptAt_3 ?_
  refine lv_iload_n hx hb dX0_keptAt_4 rfl (lv_at hl 2 rfl) ?_
  refine lv_iadd hx hb dX0_keptAt_5 ?_
  refine x_top (y := nI (f * 8 + p)) (by rw [pk_mul, nI_add]) ?_
  refine lv_istore_n (lv' := [(3, .int (nI (f * 8 + p))), (0, .ref oA), (1, .int (nI f)), (2, .int (nI p))]) hx hb dX0_keptAt_6 rfl hl (by decide) rfl (fun ls hl => ?_)
  refine lv_aload_n hx hb dX0_keptAt_7 rfl (lv_at hl 1 rfl) ?_
  refine r0_get X hw 1 (by decide) q33 rfl rfl dX0_keptAt_8 ?_
  refine lv_iload_n hx hb dX0_keptAt_11 rfl (lv_at hl 0 rfl) ?_
  refine r0_ald X hw 1 (k := 1) rfl (f * 8 + p) rfl (show (f * 8 + p) < _ by first | assumption | (simp only [fl0]; omega)) dX0_keptAt_12 ?_
  refine lv_iconst (v := 5) hx hb dX0_keptAt_13 (by decide) ?_
  refine lv_icmp_ne (tgt := 26) hx hb dX0_keptAt_14 (by decide) (fun c14 => ?_) (fun c14 => ?_)
  · refine lv_aload_n hx hb dX0_keptAt_26 rfl (lv_at hl 1 rfl) ?_
    refine r0_get X hw 2 (by decide) q34 rfl rfl dX0_keptAt_27 ?_
    refine lv_iload_n hx hb dX0_keptAt_30 rfl (lv_at hl 0 rfl) ?_
    refine r0_ald X hw 2 (k := 2) rfl (f * 8 + p) rfl (show (f * 8 + p) < _ by first | assumption | (simp only [fl0]; omega)) dX0_keptAt_31 ?_
    refine lv_istore (lv' := [(4, .int (σ 2 (f * 8 + p))), (3, .int (nI (f * 8 + p))), (0, .ref oA), (1, .int (nI f)), (2, .int (nI p))]) hx hb dX0_keptAt_32 hl (by decide) rfl (fun ls hl => ?_)
    refine lv_aload_n hx hb dX0_keptAt_34 rfl (lv_at hl 2 rfl) ?_
    refine lv_iload_n hx hb dX0_keptAt_35 rfl (lv_at hl 3 rfl) ?_
    refine lv_iload_n hx hb dX0_keptAt_36 rfl (lv_at hl 4 rfl) ?_
    refine lv_iconst (v := 1) hx hb dX0_keptAt_37 (by decide) ?_
    refine lv_iadd hx hb dX0_keptAt_38 ?_
    refine x_top (y := nI (p + 1)) (nI_1 _) ?_
    refine r0_calli (rest := []) 2 X hA hw (k0_readsAt l σ f (nI (p + 1)) hf hsz) (lw_V q116 q118 qs4 q22 q119) (by decide +kernel) rfl (by rw [hR]; exact ⟨Nat.le_of_ble_eq_true rfl, Nat.le_of_ble_eq_true rfl⟩) hl.1 rfl (Nat.le_of_ble_eq_true rfl) dX0_keptAt_39 ⟨Nat.zero_le _, Nat.zero_le _⟩ (fun r u H locs hu hw _ _ => ?_)
    obtain ⟨er, hu⟩ := hu
    rw [hu] at hw
    rw [er]
    refine lv_istore (lv' := [(5, .int (rdA σ f (nI (p + 1)))), (4, .int (σ 2 (f * 8 + p))), (3, .int (nI (f * 8 + p))), (0, .ref oA), (1, .int (nI f)), (2, .int (nI p))]) hx hb dX0_keptAt_42 hl (by decide) rfl (fun ls hl => ?_)
    refine lv_iload hx hb dX0_keptAt_44 (lv_at hl 0 rfl) ?_
    refine lv_iconst (v := 1) hx hb dX0_keptAt_46 (by decide) ?_
    refine lv_iload hx hb dX0_keptAt_47 (lv_at hl 1 rfl) ?_
    refine lv_ishl hx hb dX0_keptAt_49 ?_
    refine x_top (y := bm (σ 2 (f * 8 + p))) rfl ?_
    refine lv_iconst (v := (-1)) hx hb dX0_keptAt_50 (by decide) ?_
    refine lv_ixor hx hb dX0_keptAt_51 ?_
    refine lv_iand hx hb dX0_keptAt_52 ?_
    exact hret _ _ _ _ _ _ dX0_keptAt_53 rfl ⟨by rw [kp, if_neg c14], rfl⟩ hw
  · refine lv_aload_n hx hb dX0_keptAt_17 rfl (lv_at hl 1 rfl) ?_
    refine r0_get X hw 3 (by decide) q35 rfl rfl dX0_keptAt_18 ?_
    refine lv_iload_n hx hb dX0_keptAt_21 rfl (lv_at hl 0 rfl) ?_
    refine r0_ald X hw 3 (k := 3) rfl (f * 8 + p) rfl (show (f * 8 + p) < _ by first | assumption | (simp only [fl0]; omega)) dX0_keptAt_22 ?_
    refine lv_goto (tgt := 32) hx hb dX0_keptAt_23 (by decide) ?_
    refine lv_istore (lv' := [(4, .int (σ 3 (f * 8 + p))), (3, .int (nI (f * 8 + p))), (0, .ref oA), (1, .int (nI f)), (2, .int (nI p))]) hx hb dX0_keptAt_32 hl (by decide) rfl (fun ls hl => ?_)
    refine lv_aload_n hx hb dX0_keptAt_34 rfl (lv_at hl 2 rfl) ?_
    refine lv_iload_n hx hb dX0_keptAt_35 rfl (lv_at hl 3 rfl) ?_
    refine lv_iload_n hx hb dX0_keptAt_36 rfl (lv_at hl 4 rfl) ?_
    refine lv_iconst (v := 1) hx hb dX0_keptAt_37 (by decide) ?_
    refine lv_iadd hx hb dX0_keptAt_38 ?_
    refine x_top (y := nI (p + 1)) (nI_1 _) ?_
    refine r0_calli (rest := []) 2 X hA hw (k0_readsAt l σ f (nI (p + 1)) hf hsz) (lw_V q116 q118 qs4 q22 q119) (by decide +kernel) rfl (by rw [hR]; exact ⟨Nat.le_of_ble_eq_true rfl, Nat.le_of_ble_eq_true rfl⟩) hl.1 rfl (Nat.le_of_ble_eq_true rfl) dX0_keptAt_39 ⟨Nat.zero_le _, Nat.zero_le _⟩ (fun r u H locs hu hw _ _ => ?_)
    obtain ⟨er, hu⟩ := hu
    rw [hu] at hw
    rw [er]
    refine lv_istore (lv' := [(5, .int (rdA σ f (nI (p + 1)))), (4, .int (σ 3 (f * 8 + p))), (3, .int (nI (f * 8 + p))), (0, .ref oA), (1, .int (nI f)), (2, .int (nI p))]) hx hb dX0_keptAt_42 hl (by decide) rfl (fun ls hl => ?_)
    refine lv_iload hx hb dX0_keptAt_44 (lv_at hl 0 rfl) ?_
    refine lv_iconst (v := 1) hx hb dX0_keptAt_46 (by decide) ?_
    refine lv_iload hx hb dX0_keptAt_47 (lv_at hl 1 rfl) ?_
    refine lv_ishl hx hb dX0_keptAt_49 ?_
    refine x_top (y := bm (σ 3 (f * 8 + p))) rfl ?_
    refine lv_iconst (v := (-1)) hx hb dX0_keptAt_50 (by decide) ?_
    refine lv_ixor hx hb dX0_keptAt_51 ?_
    refine lv_iand hx hb dX0_keptAt_52 ?_
    exact hret _ _ _ _ _ _ dX0_keptAt_53 rfl ⟨by rw [kp, if_pos c14], rfl⟩ hw

set_option maxHeartbeats 4000000 in
theorem k0_analyseAt (l : Launch) (σ : St) (f p : Nat) (hf : f < 3) (hp : p < 8) (hsz : szw σ) : Ci0 l yX0_analyseAt cX0_analyseAt 4 .boolean 2 48 [.int (nI f), .int (nI p)] σ (fun r u => r = anG σ f p ∧ u = anS σ f p) := by
  refine e0_i (by decide) rfl (fun _ => Nat.le_of_ble_eq_true rfl) ?_
  intro pG eN R sT mD aR bL mT cD Q dC dI A oA qA dA hR X hA hret ls hl hw
  have hx := X.1.1
  have hb := X.1.2.1
  have hl : lv_has ls 4 [(0, .ref oA), (1, .int (nI f)), (2, .int (nI p))] := hl
  refine lv_iload_n hx hb dX0_analyseAt_0 rfl (lv_at hl 2 rfl) ?_
  refine lv_aload_n hx hb dX0_analyseAt_1 rfl (lv_at hl 0 rfl) ?_
  refine r0_get X hw 0 (by decide) q32 rfl rfl dX0_analyseAt_2 ?_
  refine lv_iload_n hx hb dX0_analyseAt_5 rfl (lv_at hl 1 rfl) ?_
  refine r0_ald X hw 0 (k := 0) rfl f rfl (show f < _ by first | assumption | (simp only [fl0]; omega)) dX0_analyseAt_6 ?_
  refine lv_icmp_lt (tgt := 12) hx hb dX0_analyseAt_7 (by decide) (fun c7 => ?_) (fun c7 => ?_)
  · refine lv_aload_n hx hb dX0_analyseAt_12 rfl (lv_at hl 0 rfl) ?_
    refine lv_iload_n hx hb dX0_analyseAt_13 rfl (lv_at hl 1 rfl) ?_
    refine lv_iload_n hx hb dX0_analyseAt_14 rfl (lv_at hl 2 rfl) ?_
    refine r0_calli (rest := []) 2 X hA hw (k0_readsBefore l σ f p hf hp hsz) (lw_V q112 q114 qs3 q22 q115) (by decide +kernel) rfl (by rw [hR]; exact ⟨Nat.le_of_ble_eq_true rfl, Nat.le_of_ble_eq_true rfl⟩) hl.1 rfl (Nat.le_of_ble_eq_true rfl) dX0_analyseAt_15 ⟨Nat.zero_le _, Nat.zero_le _⟩ (fun r u H locs hu hw _ _ => ?_)
    obtain ⟨er, hu⟩ := hu
    rw [hu] at hw
    rw [er]
    refine lv_istore_n (lv' := [(3, .int (rdB σ f p)), (0, .ref oA), (1, .int (nI f)), (2, .int (nI p))]) hx hb dX0_analyseAt_18 rfl hl (by decide) rfl (fun ls hl => ?_)
    refine lv_iload_n hx hb dX0_analyseAt_19 rfl (lv_at hl 0 rfl) ?_
    refine lv_aload_n hx hb dX0_analyseAt_20 rfl (lv_at hl 1 rfl) ?_
    refine r0_get X hw 6 (by decide) q38 rfl rfl dX0_analyseAt_21 ?_
    refine lv_iload_n hx hb dX0_analyseAt_24 rfl (lv_at hl 2 rfl) ?_
    refine lv_bipush (v := nI 9) hx hb dX0_analyseAt_25 (by decide) ?_
    refine lv_imul hx hb dX0_analyseAt_27 ?_
    refine lv_iload_n hx hb dX0_analyseAt_28 rfl (lv_at hl 3 rfl) ?_
    refine lv_iadd hx hb dX0_analyseAt_29 ?_
    refine x_top (y := nI (f * 9 + p)) (by rw [pk_mul, nI_add]) ?_
    refine r0_ald X hw 5 (k := 6) rfl (f * 9 + p) rfl (show (f * 9 + p) < _ by first | assumption | (simp only [fl0]; omega)) dX0_analyseAt_30 ?_
    refine lv_icmp_ne (tgt := 36) hx hb dX0_analyseAt_31 (by decide) (fun c31 => ?_) (fun c31 => ?_)
    · refine lv_aload_n hx hb dX0_analyseAt_36 rfl (lv_at hl 1 rfl) ?_
      refine r0_get X hw 6 (by decide) q38 rfl rfl dX0_analyseAt_37 ?_
      refine lv_iload_n hx hb dX0_analyseAt_40 rfl (lv_at hl 2 rfl) ?_
      refine lv_bipush (v := nI 9) hx hb dX0_analyseAt_41 (by decide) ?_
      refine lv_imul hx hb dX0_analyseAt_43 ?_
      refine lv_iload_n hx hb dX0_analyseAt_44 rfl (lv_at hl 3 rfl) ?_
      refine lv_iadd hx hb dX0_analyseAt_45 ?_
      refine x_top (y := nI (f * 9 + p)) (by rw [pk_mul, nI_add]) ?_
      refine lv_iload_n hx hb dX0_analyseAt_46 rfl (lv_at hl 0 rfl) ?_
      refine r0_ast X hw 5 (k := 6) rfl (f * 9 + p) rfl (show (f * 9 + p) < _ by first | assumption | (simp only [fl0]; omega)) dX0_analyseAt_47 (fun H locs hw => ?_)
      refine lv_iconst (v := 1) hx hb dX0_analyseAt_48 (by decide) ?_
      exact hret _ _ _ _ _ _ dX0_analyseAt_49 rfl ⟨by rw [anG, if_pos c7, if_neg c31], by rw [anS, if_pos c7, if_neg c31]⟩ hw
    · refine lv_iconst (v := 0) hx hb dX0_analyseAt_34 (by decide) ?_
      exact hret _ _ _ _ _ _ dX0_analyseAt_35 rfl ⟨by rw [anG, if_pos c7, if_pos c31], by rw [anS, if_pos c7, if_pos c31]⟩ hw
  · refine lv_iconst (v := 0) hx hb dX0_analyseAt_10 (by decide) ?_
    exact hret _ _ _ _ _ _ dX0_analyseAt_11 rfl ⟨by rw [anG, if_neg c7], by rw [anS, if_neg c7]⟩ hw

set_option maxHeartbeats 4000000 in
theorem k0_pack (l : Launch) (σ : St) (co fr f p : Nat) (hco : co < 4) (hfr : fr < 4) (hf : f < 3) (hp : p < 8) (ef : σ 14 0 = nI f) (ep : σ 15 0 = nI p) (hsz : szw σ) : Cv0 l yX0_pack cX0_pack 7 2 47 [.int (nI co), .int (nI fr)] σ (fun u => u = pk σ (co * 4 + fr) f p) := by
  refine e0_v (by decide) rfl (fun _ => Nat.le_of_ble_eq_true rfl) ?_
  intro pG eN R sT mD aR bL mT cD Q dC dI A oA qA dA hR X hA hret ls hl hw
  have hx := X.1.1
  have hb := X.1.2.1
  have hl : lv_has ls 7 [(0, .ref oA), (1, .int (nI co)), (2, .int (nI fr))] := hl
  refine lv_iload_n hx hb dX0_pack_0 rfl (lv_at hl 1 rfl) ?_
  refine lv_iconst (v := nI 4) hx hb dX0_pack_1 (by decide) ?_
  refine lv_imul hx hb dX0_pack_2 ?_
  refine lv_iload_n hx hb dX0_pack_3 rfl (lv_at hl 2 rfl) ?_
  refine lv_iadd hx hb dX0_pack_4 ?_
  refine x_top (y := nI (co * 4 + fr)) (by rw [pk_mul, nI_add]) ?_
  refine lv_istore_n (lv' := [(3, .int (nI (co * 4 + fr))), (0, .ref oA), (1, .int (nI co)), (2, .int (nI fr))]) hx hb dX0_pack_5 rfl hl (by decide) rfl (fun ls hl => ?_)
  refine lv_aload_n hx hb dX0_pack_6 rfl (lv_at hl 1 rfl) ?_
  refine r0_get X hw 11 (by decide) q43 rfl rfl dX0_pack_7 ?_
  refine lv_iload_n hx hb dX0_pack_10 rfl (lv_at hl 0 rfl) ?_
  refine lv_aload_n hx hb dX0_pack_11 rfl (lv_at hl 1 rfl) ?_
  refine r0_get X hw 14 (by decide) q46 rfl rfl dX0_pack_12 ?_
  refine x_top (y := nI f) ef ?_
  refine r0_ast X hw 10 (k := 11) rfl (co * 4 + fr) rfl (show (co * 4 + fr) < _ by first | assumption | (simp only [fl0]; omega)) dX0_pack_15 (fun H locs hw => ?_)
  refine lv_aload_n hx hb dX0_pack_16 rfl (lv_at hl 1 rfl) ?_
  refine r0_get X hw 12 (by decide) q44 rfl rfl dX0_pack_17 ?_
  refine lv_iload_n hx hb dX0_pack_20 rfl (lv_at hl 0 rfl) ?_
  refine lv_aload_n hx hb dX0_pack_21 rfl (lv_at hl 1 rfl) ?_
  refine r0_get X hw 15 (by decide) q47 rfl rfl dX0_pack_22 ?_
  refine x_top (y := nI p) ep ?_
  refine r0_ast X hw 11 (k := 12) rfl (co * 4 + fr) rfl (show (co * 4 + fr) < _ by first | assumption | (simp only [fl0]; omega)) dX0_pack_25 (fun H locs hw => ?_)
  refine lv_aload_n hx hb dX0_pack_26 rfl (lv_at hl 1 rfl) ?_
  refine lv_aload_n hx hb dX0_pack_27 rfl (lv_at hl 1 rfl) ?_
  refine r0_get X hw 14 (by decide) q46 rfl rfl dX0_pack_28 ?_
  refine x_top (y := nI f) ef ?_
  refine lv_aload_n hx hb dX0_pack_31 rfl (lv_at hl 1 rfl) ?_
  refine r0_get X hw 15 (by decide) q47 rfl rfl dX0_pack_32 ?_
  refine x_top (y := nI p) ep ?_
  refine r0_calli (rest := []) 2 X hA hw (k0_keptAt l _ f p hf hp (szw_sm (sm_su (sm_su (sm_rf σ) (by decide)) (by decide)) hsz)) (lw_V q124 q126 qs6 q22 q127) (by decide +kernel) rfl (by rw [hR]; exact ⟨Nat.le_of_ble_eq_true rfl, Nat.le_of_ble_eq_true rfl⟩) hl.1 rfl (Nat.le_of_ble_eq_true rfl) dX0_pack_35 ⟨Nat.zero_le _, Nat.zero_le _⟩ (fun r u H locs hu hw _ _ => ?_)
  obtain ⟨er, hu⟩ := hu
  rw [hu] at hw
  rw [er]
  refine x_top (y := kp σ f p) (kp_sm (sm_su (sm_su (sm_rf σ) (by decide)) (by decide)) f p) ?_
  refine lv_istore (lv' := [(4, .int (kp σ f p)), (3, .int (nI (co * 4 + fr))), (0, .ref oA), (1, .int (nI co)), (2, .int (nI fr))]) hx hb dX0_pack_38 hl (by decide) rfl (fun ls hl => ?_)
  refine lv_iconst (v := 0) hx hb dX0_pack_40 (by decide) ?_
  refine lv_istore (lv' := [(5, .int 0), (4, .int (kp σ f p)), (3, .int (nI (co * 4 + fr))), (0, .ref oA), (1, .int (nI co)), (2, .int (nI fr))]) hx hb dX0_pack_41 hl (by decide) rfl (fun ls hl => ?_)
  refine lv_iconst (v := 0) hx hb dX0_pack_43 (by decide) ?_
  refine lv_istore (lv' := [(6, .int 0), (5, .int 0), (4, .int (kp σ f p)), (3, .int (nI (co * 4 + fr))), (0, .ref oA), (1, .int (nI co)), (2, .int (nI fr))]) hx hb dX0_pack_44 hl (by decide) rfl (fun ls hl => ?_)
  have loop : ∀ (k : Nat) (r : Nat) (H : Heap) (locs : List Loc) (ls : Array Slot), r + k = 4 → lv_has ls 7 [(0, .ref oA), (3, .int (nI (co * 4 + fr))), (4, .int (kp σ f p)), (5, .int (nI (rk (kp σ f p) r))), (6, .int (nI r))] → wd0 dC dI A sT.heap oA qA dA (pkL (su (su σ 11 (co * 4 + fr) (nI f)) 12 (co * 4 + fr) (nI p)) (kp σ f p) (co * 4 + fr) r) H locs → W pG l eN R sT mD aR bL mT cD H locs 0 0 Q (F0 mD 46 ls []) := by
    intro k
    induction k with
    | zero =>
      intro r H locs ls hk hl hw
      obtain rfl : r = 4 := by omega
      refine lv_iload hx hb dX0_pack_46 (lv_at hl 4 rfl) ?_
      refine lv_iconst (v := nI 4) hx hb dX0_pack_48 (by decide) ?_
      refine lv_icmp_ge (tgt := 90) hx hb dX0_pack_49 (by decide) (fun c49 => ?_) (fun c49 => ?_)
      · exact hret _ _ _ _ _ dX0_pack_90 rfl hw
      · exact absurd (nI_le (by omega) (by decide)) c49
    | succ k ih =>
      intro r H locs ls hk hl hw
      have hr := rk_le (kp σ f p) r
      refine lv_iload hx hb dX0_pack_46 (lv_at hl 4 rfl) ?_
      refine lv_iconst (v := nI 4) hx hb dX0_pack_48 (by decide) ?_
      refine lv_icmp_ge (tgt := 90) hx hb dX0_pack_49 (by decide) (fun c49 => ?_) (fun c49 => ?_)
      · exact absurd c49 (nI_ge (by omega) (by decide))
      · refine lv_iload hx hb dX0_pack_52 (lv_at hl 2 rfl) ?_
        refine lv_iload hx hb dX0_pack_54 (lv_at hl 4 rfl) ?_
        refine lv_ishr hx hb dX0_pack_56 ?_
        refine lv_iconst (v := 1) hx hb dX0_pack_57 (by decide) ?_
        refine lv_iand hx hb dX0_pack_58 ?_
        refine lv_iconst (v := 1) hx hb dX0_pack_59 (by decide) ?_
        refine lv_icmp_ne (tgt := 84) hx hb dX0_pack_60 (by decide) (fun c60 => ?_) (fun c60 => ?_)
        · refine lv_iinc (v := nI (r + 1)) (lv' := [(6, .int (nI (r + 1))), (0, .ref oA), (3, .int (nI (co * 4 + fr))), (4, .int (kp σ f p)), (5, .int (nI (rk (kp σ f p) r)))]) hx hb dX0_pack_84 hl (k := 4) rfl (nI_1 _) (by decide) rfl (fun ls hl => ?_)
          refine lv_goto (tgt := 46) hx hb dX0_pack_87 (by decide) ?_
          have e1 : pkL (su (su σ 11 (co * 4 + fr) (nI f)) 12 (co * 4 + fr) (nI p)) (kp σ f p) (co * 4 + fr) (r + 1) = pkL (su (su σ 11 (co * 4 + fr) (nI f)) 12 (co * 4 + fr) (nI p)) (kp σ f p) (co * 4 + fr) r := by rw [pkL, if_neg c60]
          have e2 : rk (kp σ f p) (r + 1) = rk (kp σ f p) r := by rw [rk, if_neg c60]
          rw [← e1] at hw
          rw [← e2] at hl
          exact ih (r + 1) _ _ _ (by omega) (lv_sub hl [1, 2, 3, 4, 0] rfl) hw
        · refine lv_aload_n hx hb dX0_pack_63 rfl (lv_at hl 0 rfl) ?_
          refine r0_get X hw 13 (by decide) q45 rfl rfl dX0_pack_64 ?_
          refine lv_iload_n hx hb dX0_pack_67 rfl (lv_at hl 1 rfl) ?_
          refine lv_iconst (v := nI 4) hx hb dX0_pack_68 (by decide) ?_
          refine lv_imul hx hb dX0_pack_69 ?_
          refine x_top (y := nI ((co * 4 + fr) * 4)) (pk_mul _ _) ?_
          refine lv_iload hx hb dX0_pack_70 (lv_at hl 3 rfl) ?_
          refine lv_iadd hx hb dX0_pack_72 ?_
          refine x_top (y := nI ((co * 4 + fr) * 4 + rk (kp σ f p) r)) (nI_add _ _) ?_
          refine lv_aload_n hx hb dX0_pack_73 rfl (lv_at hl 0 rfl) ?_
          refine r0_get X hw 16 (by decide) q48 rfl rfl dX0_pack_74 ?_
          refine lv_iload hx hb dX0_pack_77 (lv_at hl 4 rfl) ?_
          refine r0_ald X hw 13 (k := 16) rfl r rfl (show r < _ by first | assumption | (simp only [fl0]; omega)) dX0_pack_79 ?_
          refine r0_ast X hw 12 (k := 13) rfl ((co * 4 + fr) * 4 + rk (kp σ f p) r) rfl (show ((co * 4 + fr) * 4 + rk (kp σ f p) r) < _ by first | assumption | (simp only [fl0]; omega)) dX0_pack_80 (fun H locs hw => ?_)
          refine lv_iinc (v := nI (rk (kp σ f p) r + 1)) (lv' := [(5, .int (nI (rk (kp σ f p) r + 1))), (0, .ref oA), (3, .int (nI (co * 4 + fr))), (4, .int (kp σ f p)), (6, .int (nI r))]) hx hb dX0_pack_81 hl (k := 3) rfl (nI_1 _) (by decide) rfl (fun ls hl => ?_)
          refine lv_iinc (v := nI (r + 1)) (lv' := [(6, .int (nI (r + 1))), (5, .int (nI (rk (kp σ f p) r + 1))), (0, .ref oA), (3, .int (nI (co * 4 + fr))), (4, .int (kp σ f p))]) hx hb dX0_pack_84 hl (k := 4) rfl (nI_1 _) (by decide) rfl (fun ls hl => ?_)
          refine lv_goto (tgt := 46) hx hb dX0_pack_87 (by decide) ?_
          have e1 : pkL (su (su σ 11 (co * 4 + fr) (nI f)) 12 (co * 4 + fr) (nI p)) (kp σ f p) (co * 4 + fr) (r + 1) = su (pkL (su (su σ 11 (co * 4 + fr) (nI f)) 12 (co * 4 + fr) (nI p)) (kp σ f p) (co * 4 + fr) r) 13 ((co * 4 + fr) * 4 + rk (kp σ f p) r) ((pkL (su (su σ 11 (co * 4 + fr) (nI f)) 12 (co * 4 + fr) (nI p)) (kp σ f p) (co * 4 + fr) r) 16 r) := by rw [pkL, if_pos c60]
          have e2 : rk (kp σ f p) (r + 1) = rk (kp σ f p) r + 1 := by rw [rk, if_pos c60]
          rw [← e1] at hw
          rw [← e2] at hl
          exact ih (r + 1) _ _ _ (by omega) (lv_sub hl [2, 3, 4, 1, 0] rfl) hw
  exact loop 4 0 _ _ _ rfl (lv_sub hl [4, 3, 2, 1, 0] rfl) hw

set_option maxHeartbeats 4000000 in
theorem k0_unpack (l : Launch) (σ : St) (co fr f : Nat) (hco : co < 4) (hfr : fr < 4) (hf : f < 3) (eF : σ 11 (co * 4 + fr) = nI f) (hP : σ 12 (co * 4 + fr) < 0 ∨ ∃ p, p < 8 ∧ σ 12 (co * 4 + fr) = nI p) (hsz : szw σ) : Cv0 l yX0_unpack cX0_unpack 7 2 47 [.int (nI co), .int (nI fr)] σ (fun u => u = up0 σ (co * 4 + fr)) := by
  refine e0_v (by decide) rfl (fun _ => Nat.le_of_ble_eq_true rfl) ?_
  intro pG eN R sT mD aR bL mT cD Q dC dI A oA qA dA hR X hA hret ls hl hw
  have hx := X.1.1
  have hb := X.1.2.1
  have hl : lv_has ls 7 [(0, .ref oA), (1, .int (nI co)), (2, .int (nI fr))] := hl
  refine lv_iload_n hx hb dX0_unpack_0 rfl (lv_at hl 1 rfl) ?_
  refine lv_iconst (v := nI 4) hx hb dX0_unpack_1 (by decide) ?_
  refine lv_imul hx hb dX0_unpack_2 ?_
  refine lv_iload_n hx hb dX0_unpack_3 rfl (lv_at hl 2 rfl) ?_
  refine lv_iadd hx hb dX0_unpack_4 ?_
  refine x_top (y := nI (co * 4 + fr)) (by rw [pk_mul, nI_add]) ?_
  refine lv_istore_n (lv' := [(3, .int (nI (co * 4 + fr))), (0, .ref oA), (1, .int (nI co)), (2, .int (nI fr))]) hx hb dX0_unpack_5 rfl hl (by decide) rfl (fun ls hl => ?_)
  refine lv_aload_n hx hb dX0_unpack_6 rfl (lv_at hl 1 rfl) ?_
  refine lv_aload_n hx hb dX0_unpack_7 rfl (lv_at hl 1 rfl) ?_
  refine r0_get X hw 11 (by decide) q43 rfl rfl dX0_unpack_8 ?_
  refine lv_iload_n hx hb dX0_unpack_11 rfl (lv_at hl 0 rfl) ?_
  refine r0_ald X hw 10 (k := 11) rfl (co * 4 + fr) rfl (show (co * 4 + fr) < _ by first | assumption | (simp only [fl0]; omega)) dX0_unpack_12 ?_
  refine r0_putf X hw dX0_unpack_13 (fun H locs hw => ?_)
  refine lv_aload_n hx hb dX0_unpack_16 rfl (lv_at hl 1 rfl) ?_
  refine lv_aload_n hx hb dX0_unpack_17 rfl (lv_at hl 1 rfl) ?_
  refine r0_get X hw 12 (by decide) q44 rfl rfl dX0_unpack_18 ?_
  refine lv_iload_n hx hb dX0_unpack_21 rfl (lv_at hl 0 rfl) ?_
  refine r0_ald X hw 11 (k := 12) rfl (co * 4 + fr) rfl (show (co * 4 + fr) < _ by first | assumption | (simp only [fl0]; omega)) dX0_unpack_22 ?_
  refine x_top (y := σ 12 (co * 4 + fr)) rfl ?_
  refine r0_putp X hw dX0_unpack_23 (fun H locs hw => ?_)
  refine lv_iconst (v := 0) hx hb dX0_unpack_26 (by decide) ?_
  refine lv_istore (lv' := [(4, .int 0), (3, .int (nI (co * 4 + fr))), (0, .ref oA), (1, .int (nI co)), (2, .int (nI fr))]) hx hb dX0_unpack_27 hl (by decide) rfl (fun ls hl => ?_)
  have loop1 : ∀ (k : Nat) (r : Nat) (H : Heap) (locs : List Loc) (ls : Array Slot), r + k = 4 → lv_has ls 7 [(0, .ref oA), (3, .int (nI (co * 4 + fr))), (4, .int (nI r))] → wd0 dC dI A sT.heap oA qA dA (zrL (su (su σ 14 0 (σ 11 (co * 4 + fr))) 15 0 (σ 12 (co * 4 + fr))) r) H locs → W pG l eN R sT mD aR bL mT cD H locs 0 0 Q (F0 mD 29 ls []) := by
    intro k
    induction k with
    | zero =>
      intro r H locs ls hk hl hw
      obtain rfl : r = 4 := by omega
      refine lv_iload hx hb dX0_unpack_29 (lv_at hl 2 rfl) ?_
      refine lv_iconst (v := nI 4) hx hb dX0_unpack_31 (by decide) ?_
      refine lv_icmp_ge (tgt := 49) hx hb dX0_unpack_32 (by decide) (fun c32 => ?_) (fun c32 => ?_)
      · have hw : wd0 dC dI A sT.heap oA qA dA (up1 σ (co * 4 + fr)) H locs := hw
        refine lv_aload_n hx hb dX0_unpack_49 rfl (lv_at hl 0 rfl) ?_
        refine r0_get X hw 15 (by decide) q47 rfl rfl dX0_unpack_50 ?_
        refine x_top (y := σ 12 (co * 4 + fr)) rfl ?_
        refine lv_if_ge (tgt := 71) hx hb dX0_unpack_53 (by decide) (fun c53 => ?_) (fun c53 => ?_)
        · obtain ⟨p, hp, eP⟩ : ∃ p, p < 8 ∧ σ 12 (co * 4 + fr) = nI p := hP.resolve_left (Int32.not_lt.mpr c53)
          refine lv_aload_n hx hb dX0_unpack_71 rfl (lv_at hl 0 rfl) ?_
          refine lv_aload_n hx hb dX0_unpack_72 rfl (lv_at hl 0 rfl) ?_
          refine r0_get X hw 14 (by decide) q46 rfl rfl dX0_unpack_73 ?_
          refine x_top (y := nI f) eF ?_
          refine lv_aload_n hx hb dX0_unpack_76 rfl (lv_at hl 0 rfl) ?_
          refine r0_get X hw 15 (by decide) q47 rfl rfl dX0_unpack_77 ?_
          refine x_top (y := nI p) eP ?_
          refine r0_calli (rest := []) 2 X hA hw (k0_keptAt l _ f p hf hp (szw_sm (sm_up1 σ _) hsz)) (lw_V q124 q126 qs6 q22 q127) (by decide +kernel) rfl (by rw [hR]; exact ⟨Nat.le_of_ble_eq_true rfl, Nat.le_of_ble_eq_true rfl⟩) hl.1 rfl (Nat.le_of_ble_eq_true rfl) dX0_unpack_80 ⟨Nat.zero_le _, Nat.zero_le _⟩ (fun r u H locs hu hw _ _ => ?_)
          obtain ⟨er, hu⟩ := hu
          rw [hu] at hw
          rw [er]
          refine x_top (y := kp σ f p) (kp_sm (sm_up1 σ _) f p) ?_
          refine lv_istore (lv' := [(4, .int (kp σ f p)), (0, .ref oA), (3, .int (nI (co * 4 + fr)))]) hx hb dX0_unpack_83 hl (by decide) rfl (fun ls hl => ?_)
          refine lv_iconst (v := 0) hx hb dX0_unpack_85 (by decide) ?_
          refine lv_istore (lv' := [(5, .int 0), (4, .int (kp σ f p)), (0, .ref oA), (3, .int (nI (co * 4 + fr)))]) hx hb dX0_unpack_86 hl (by decide) rfl (fun ls hl => ?_)
          refine lv_iconst (v := 0) hx hb dX0_unpack_88 (by decide) ?_
          refine lv_istore (lv' := [(6, .int 0), (5, .int 0), (4, .int (kp σ f p)), (0, .ref oA), (3, .int (nI (co * 4 + fr)))]) hx hb dX0_unpack_89 hl (by decide) rfl (fun ls hl => ?_)
          have loop2 : ∀ (k : Nat) (r : Nat) (H : Heap) (locs : List Loc) (ls : Array Slot), r + k = 4 → lv_has ls 7 [(0, .ref oA), (3, .int (nI (co * 4 + fr))), (4, .int (kp σ f p)), (5, .int (nI (rk (kp σ f p) r))), (6, .int (nI r))] → wd0 dC dI A sT.heap oA qA dA (unL (up1 σ (co * 4 + fr)) (kp σ f p) (co * 4 + fr) r) H locs → W pG l eN R sT mD aR bL mT cD H locs 0 0 Q (F0 mD 91 ls []) := by
            intro k
            induction k with
            | zero =>
              intro r H locs ls hk hl hw
              obtain rfl : r = 4 := by omega
              refine lv_iload hx hb dX0_unpack_91 (lv_at hl 4 rfl) ?_
              refine lv_iconst (v := nI 4) hx hb dX0_unpack_93 (by decide) ?_
              refine lv_icmp_ge (tgt := 135) hx hb dX0_unpack_94 (by decide) (fun c94 => ?_) (fun c94 => ?_)
              · exact hret _ _ _ _ _ dX0_unpack_135 (by rw [up0, if_neg (Int32.not_lt.mpr c53), eF, eP, cn_nI (by omega), cn_nI (by omega)]) hw
              · exact absurd (nI_le (by omega) (by decide)) c94
            | succ k ih2 =>
              intro r H locs ls hk hl hw
              have hr := rk_le (kp σ f p) r
              refine lv_iload hx hb dX0_unpack_91 (lv_at hl 4 rfl) ?_
              refine lv_iconst (v := nI 4) hx hb dX0_unpack_93 (by decide) ?_
              refine lv_icmp_ge (tgt := 135) hx hb dX0_unpack_94 (by decide) (fun c94 => ?_) (fun c94 => ?_)
              · exact absurd c94 (nI_ge (by omega) (by decide))
              · refine lv_iload hx hb dX0_unpack_97 (lv_at hl 2 rfl) ?_
                refine lv_iload hx hb dX0_unpack_99 (lv_at hl 4 rfl) ?_
                refine lv_ishr hx hb dX0_unpack_101 ?_
                refine lv_iconst (v := 1) hx hb dX0_unpack_102 (by decide) ?_
                refine lv_iand hx hb dX0_unpack_103 ?_
                refine lv_iconst (v := 1) hx hb dX0_unpack_104 (by decide) ?_
                refine lv_icmp_ne (tgt := 129) hx hb dX0_unpack_105 (by decide) (fun c105 => ?_) (fun c105 => ?_)
                · refine lv_iinc (v := nI (r + 1)) (lv' := [(6, .int (nI (r + 1))), (0, .ref oA), (3, .int (nI (co * 4 + fr))), (4, .int (kp σ f p)), (5, .int (nI (rk (kp σ f p) r)))]) hx hb dX0_unpack_129 hl (k := 4) rfl (nI_1 _) (by decide) rfl (fun ls hl => ?_)
                  refine lv_goto (tgt := 91) hx hb dX0_unpack_132 (by decide) ?_
                  have e1 : unL (up1 σ (co * 4 + fr)) (kp σ f p) (co * 4 + fr) (r + 1) = unL (up1 σ (co * 4 + fr)) (kp σ f p) (co * 4 + fr) r := by rw [unL, if_neg c105]
                  have e2 : rk (kp σ f p) (r + 1) = rk (kp σ f p) r := by rw [rk, if_neg c105]
                  rw [← e1] at hw
                  rw [← e2] at hl
                  exact ih2 (r + 1) _ _ _ (by omega) (lv_sub hl [1, 2, 3, 4, 0] rfl) hw
                · refine lv_aload_n hx hb dX0_unpack_108 rfl (lv_at hl 0 rfl) ?_
                  refine r0_get X hw 16 (by decide) q48 rfl rfl dX0_unpack_109 ?_
                  refine lv_iload hx hb dX0_unpack_112 (lv_at hl 4 rfl) ?_
                  refine lv_aload_n hx hb dX0_unpack_114 rfl (lv_at hl 0 rfl) ?_
                  refine r0_get X hw 13 (by decide) q45 rfl rfl dX0_unpack_115 ?_
                  refine lv_iload_n hx hb dX0_unpack_118 rfl (lv_at hl 1 rfl) ?_
                  refine lv_iconst (v := nI 4) hx hb dX0_unpack_119 (by decide) ?_
                  refine lv_imul hx hb dX0_unpack_120 ?_
                  refine x_top (y := nI ((co * 4 + fr) * 4)) (pk_mul _ _) ?_
                  refine lv_iload hx hb dX0_unpack_121 (lv_at hl 3 rfl) ?_
                  refine lv_iadd hx hb dX0_unpack_123 ?_
                  refine x_top (y := nI ((co * 4 + fr) * 4 + rk (kp σ f p) r)) (nI_add _ _) ?_
                  refine r0_ald X hw 12 (k := 13) rfl ((co * 4 + fr) * 4 + rk (kp σ f p) r) rfl (show ((co * 4 + fr) * 4 + rk (kp σ f p) r) < _ by first | assumption | (simp only [fl0]; omega)) dX0_unpack_124 ?_
                  refine r0_ast X hw 13 (k := 16) rfl r rfl (show r < _ by first | assumption | (simp only [fl0]; omega)) dX0_unpack_125 (fun H locs hw => ?_)
                  refine lv_iinc (v := nI (rk (kp σ f p) r + 1)) (lv' := [(5, .int (nI (rk (kp σ f p) r + 1))), (0, .ref oA), (3, .int (nI (co * 4 + fr))), (4, .int (kp σ f p)), (6, .int (nI r))]) hx hb dX0_unpack_126 hl (k := 3) rfl (nI_1 _) (by decide) rfl (fun ls hl => ?_)
                  refine lv_iinc (v := nI (r + 1)) (lv' := [(6, .int (nI (r + 1))), (5, .int (nI (rk (kp σ f p) r + 1))), (0, .ref oA), (3, .int (nI (co * 4 + fr))), (4, .int (kp σ f p))]) hx hb dX0_unpack_129 hl (k := 4) rfl (nI_1 _) (by decide) rfl (fun ls hl => ?_)
                  refine lv_goto (tgt := 91) hx hb dX0_unpack_132 (by decide) ?_
                  have e1 : unL (up1 σ (co * 4 + fr)) (kp σ f p) (co * 4 + fr) (r + 1) = su (unL (up1 σ (co * 4 + fr)) (kp σ f p) (co * 4 + fr) r) 16 r ((unL (up1 σ (co * 4 + fr)) (kp σ f p) (co * 4 + fr) r) 13 ((co * 4 + fr) * 4 + rk (kp σ f p) r)) := by rw [unL, if_pos c105]
                  have e2 : rk (kp σ f p) (r + 1) = rk (kp σ f p) r + 1 := by rw [rk, if_pos c105]
                  rw [← e1] at hw
                  rw [← e2] at hl
                  exact ih2 (r + 1) _ _ _ (by omega) (lv_sub hl [2, 3, 4, 1, 0] rfl) hw
          exact loop2 4 0 _ _ _ rfl (lv_sub hl [3, 4, 2, 1, 0] rfl) hw
        · refine lv_aload_n hx hb dX0_unpack_56 rfl (lv_at hl 0 rfl) ?_
          refine r0_get X hw 16 (by decide) q48 rfl rfl dX0_unpack_57 ?_
          refine lv_iconst (v := 0) hx hb dX0_unpack_60 (by decide) ?_
          refine lv_aload_n hx hb dX0_unpack_61 rfl (lv_at hl 0 rfl) ?_
          refine r0_get X hw 13 (by decide) q45 rfl rfl dX0_unpack_62 ?_
          refine lv_iload_n hx hb dX0_unpack_65 rfl (lv_at hl 1 rfl) ?_
          refine lv_iconst (v := nI 4) hx hb dX0_unpack_66 (by decide) ?_
          refine lv_imul hx hb dX0_unpack_67 ?_
          refine x_top (y := nI ((co * 4 + fr) * 4)) (pk_mul _ _) ?_
          refine r0_ald X hw 12 (k := 13) rfl ((co * 4 + fr) * 4) rfl (show ((co * 4 + fr) * 4) < _ by first | assumption | (simp only [fl0]; omega)) dX0_unpack_68 ?_
          refine x_top (y := σ 13 ((co * 4 + fr) * 4)) rfl ?_
          refine r0_ast X hw 13 (k := 16) rfl 0 rfl (by decide) dX0_unpack_69 (fun H locs hw => ?_)
          exact hret _ _ _ _ _ dX0_unpack_70 (by rw [up0, if_pos (Int32.not_le.mp c53)]) hw
      · exact absurd (nI_le (by omega) (by decide)) c32
    | succ k ih =>
      intro r H locs ls hk hl hw
      refine lv_iload hx hb dX0_unpack_29 (lv_at hl 2 rfl) ?_
      refine lv_iconst (v := nI 4) hx hb dX0_unpack_31 (by decide) ?_
      refine lv_icmp_ge (tgt := 49) hx hb dX0_unpack_32 (by decide) (fun c32 => ?_) (fun c32 => ?_)
      · exact absurd c32 (nI_ge (by omega) (by decide))
      · refine lv_aload_n hx hb dX0_unpack_35 rfl (lv_at hl 0 rfl) ?_
        refine r0_get X hw 16 (by decide) q48 rfl rfl dX0_unpack_36 ?_
        refine lv_iload hx hb dX0_unpack_39 (lv_at hl 2 rfl) ?_
        refine lv_iconst (v := 0) hx hb dX0_unpack_41 (by decide) ?_
        refine r0_ast X hw 13 (k := 16) rfl r rfl (show r < _ by first | assumption | (simp only [fl0]; omega)) dX0_unpack_42 (fun H locs hw => ?_)
        refine lv_iinc (v := nI (r + 1)) (lv' := [(4, .int (nI (r + 1))), (0, .ref oA), (3, .int (nI (co * 4 + fr)))]) hx hb dX0_unpack_43 hl (k := 2) rfl (nI_1 _) (by decide) rfl (fun ls hl => ?_)
        refine lv_goto (tgt := 29) hx hb dX0_unpack_46 (by decide) ?_
        exact ih (r + 1) _ _ _ (by omega) (lv_sub hl [1, 2, 0] rfl) hw
  exact loop1 4 0 _ _ _ rfl (lv_sub hl [2, 1, 0] rfl) hw
end
section
set_option maxRecDepth 100000

/-- the registers' numbers are 0 .. 3 -/
def rgw (σ : St) : Prop := ∀ j, (∃ a, a < 4 ∧ σ 2 j = nI a) ∧ ∃ b, b < 4 ∧ σ 3 j = nI b
theorem rgw_sm {σ σ' : St} (h : sm σ σ') (hr : rgw σ) : rgw σ' := by
  intro j
  rw [h.2.2.1, h.2.2.2.1]
  exact hr j
theorem zrL_ne (σ : St) {k : Nat} (hk : k ≠ 16) : ∀ r, zrL σ r k = σ k
  | 0 => rfl
  | r + 1 => by
    unfold zrL
    rw [su_ne hk]
    exact zrL_ne σ hk r
theorem pkL_ne (σ : St) (m : Int32) (g : Nat) {k : Nat} (hk : k ≠ 13) : ∀ r, pkL σ m g r k = σ k
  | 0 => rfl
  | r + 1 => by
    unfold pkL
    split
    · rw [su_ne hk]
      exact pkL_ne σ m g hk r
    · exact pkL_ne σ m g hk r
theorem unL_ne (σ : St) (m : Int32) (g : Nat) {k : Nat} (hk : k ≠ 16) : ∀ r, unL σ m g r k = σ k
  | 0 => rfl
  | r + 1 => by
    unfold unL
    split
    · rw [su_ne hk]
      exact unL_ne σ m g hk r
    · exact unL_ne σ m g hk r
theorem pk_ne (σ : St) (g f p : Nat) {k : Nat} (h1 : k ≠ 11) (h2 : k ≠ 12) (h3 : k ≠ 13) : pk σ g f p k = σ k := by
  unfold pk
  rw [pkL_ne _ _ _ h3, su_ne h2, su_ne h1]
theorem up1_ne (σ : St) (g : Nat) {k : Nat} (h1 : k ≠ 14) (h2 : k ≠ 15) (h3 : k ≠ 16) : up1 σ g k = σ k := by
  unfold up1
  rw [zrL_ne _ h3, su_ne h2, su_ne h1]
theorem up1_14 (σ : St) (g : Nat) : up1 σ g 14 0 = σ 11 g := by
  unfold up1
  rw [zrL_ne _ (by decide), su_ne (by decide), su_eq]
theorem up1_15 (σ : St) (g : Nat) : up1 σ g 15 0 = σ 12 g := by
  unfold up1
  rw [zrL_ne _ (by decide), su_eq]
theorem up0_ne (σ : St) (g : Nat) {k : Nat} (h3 : k ≠ 16) : up0 σ g k = up1 σ g k := by
  unfold up0
  split
  · rw [su_ne h3]
  · rw [unL_ne _ _ _ h3]
theorem up0_14 (σ : St) (g : Nat) : up0 σ g 14 0 = σ 11 g := by rw [up0_ne _ _ (by decide), up1_14]
theorem up0_15 (σ : St) (g : Nat) : up0 σ g 15 0 = σ 12 g := by rw [up0_ne _ _ (by decide), up1_15]
theorem nI_p1 {d : Nat} (h : d ≠ 0) : nI d - 1 = nI (d - 1) := by
  have := nI_pred (d - 1)
  rwa [Nat.sub_add_cancel (by omega)] at this
theorem nI_z {d : Nat} (hd : d < 2 ^ 31) (h : nI d = 0) : d = 0 := (nI_eq hd (by decide)).mp (h.trans nI_0.symm)
/-- the frame below holds a function and a place -/
def frw (σ : St) (co d : Nat) : Prop := d ≠ 0 → ∃ f p, f < 3 ∧ p < 8 ∧ σ 11 (co * 4 + (d - 1)) = nI f ∧ σ 12 (co * 4 + (d - 1)) = nI p

set_option maxHeartbeats 4000000 in
theorem k0_giveBack (l : Launch) (σ : St) (co d : Nat) (v : Int32) (hco : co < 4) (hd : d < 4) (ed : σ 10 co = nI (d + 1)) (hsz : szw σ) (hrg : rgw σ) (hfr : frw σ co d) : Cv0 l yX0_giveBack cX0_giveBack 3 3 73 [.int (nI co), .int v] σ (fun u => u = gb σ co d v) := by
  refine e0_v (by decide) rfl (fun _ => Nat.le_of_ble_eq_true rfl) ?_
  intro pG eN R sT mD aR bL mT cD Q dC dI A oA qA dA hR X hA hret ls hl hw
  have hx := X.1.1
  have hb := X.1.2.1
  have hl : lv_has ls 3 [(0, .ref oA), (1, .int (nI co)), (2, .int v)] := hl
  refine lv_aload_n hx hb dX0_giveBack_0 rfl (lv_at hl 0 rfl) ?_
  refine r0_get X hw 10 (by decide) q42 rfl rfl dX0_giveBack_1 ?_
  refine lv_iload_n hx hb dX0_giveBack_4 rfl (lv_at hl 1 rfl) ?_
  refine lv_dup2_11 hx hb dX0_giveBack_5 rfl rfl ?_
  refine r0_ald X hw 9 (k := 10) rfl co rfl (show co < _ by first | assumption | (simp only [fl0]; omega)) dX0_giveBack_6 ?_
  refine x_top (y := nI (d + 1)) ed ?_
  refine lv_iconst (v := 1) hx hb dX0_giveBack_7 (by decide) ?_
  refine lv_isub hx hb dX0_giveBack_8 ?_
  refine x_top (y := nI d) (nI_pred d) ?_
  refine r0_ast X hw 9 (k := 10) rfl co rfl (show co < _ by first | assumption | (simp only [fl0]; omega)) dX0_giveBack_9 (fun H locs hw => ?_)
  refine lv_aload_n hx hb dX0_giveBack_10 rfl (lv_at hl 0 rfl) ?_
  refine r0_get X hw 10 (by decide) q42 rfl rfl dX0_giveBack_11 ?_
  refine lv_iload_n hx hb dX0_giveBack_14 rfl (lv_at hl 1 rfl) ?_
  refine r0_ald X hw 9 (k := 10) rfl co rfl (show co < _ by first | assumption | (simp only [fl0]; omega)) dX0_giveBack_15 ?_
  refine x_top (y := nI d) su_eq ?_
  refine lv_if_ne (tgt := 27) hx hb dX0_giveBack_16 (by decide) (fun c16 => ?_) (fun c16 => ?_)
  · have hd0 : d ≠ 0 := fun h => c16 (by rw [h]; rfl)
    obtain ⟨f, p, hf, hp, eF, eP⟩ := hfr hd0
    obtain ⟨⟨ra, hra, era⟩, -⟩ := hrg (f * 8 + p)
    have eU : gb σ co d v = su (su (up0 (su σ 10 co (nI d)) (co * 4 + (d - 1))) 16 ra v) 15 0 (nI p + 1) := by
      rw [gb, if_neg hd0, gb1, show (su σ 10 co (nI d)) 11 (co * 4 + (d - 1)) = nI f from eF, show (su σ 10 co (nI d)) 12 (co * 4 + (d - 1)) = nI p from eP, cn_nI (by omega), cn_nI (by omega), show (su σ 10 co (nI d)) 2 (f * 8 + p) = nI ra from era, cn_nI (by omega)]
    refine lv_aload_n hx hb dX0_giveBack_27 rfl (lv_at hl 0 rfl) ?_
    refine lv_iload_n hx hb dX0_giveBack_28 rfl (lv_at hl 1 rfl) ?_
    refine lv_aload_n hx hb dX0_giveBack_29 rfl (lv_at hl 0 rfl) ?_
    refine r0_get X hw 10 (by decide) q42 rfl rfl dX0_giveBack_30 ?_
    refine lv_iload_n hx hb dX0_giveBack_33 rfl (lv_at hl 1 rfl) ?_
    refine r0_ald X hw 9 (k := 10) rfl co rfl (show co < _ by first | assumption | (simp only [fl0]; omega)) dX0_giveBack_34 ?_
    refine x_top (y := nI d) su_eq ?_
    refine lv_iconst (v := 1) hx hb dX0_giveBack_35 (by decide) ?_
    refine lv_isub hx hb dX0_giveBack_36 ?_
    refine x_top (y := nI (d - 1)) (nI_p1 hd0) ?_
    refine r0_callv (rest := []) 2 X hA hw (k0_unpack l (su σ 10 co (nI d)) co (d - 1) f hco (by omega) hf eF (Or.inr ⟨p, hp, eP⟩) (szw_sm (sm_su (sm_rf σ) (by decide)) hsz)) (lw_V q120 q122 qs5 q22 q123) (by decide +kernel) rfl (by rw [hR]; exact ⟨Nat.le_of_ble_eq_true rfl, Nat.le_of_ble_eq_true rfl⟩) hl.1 rfl (Nat.le_of_ble_eq_true rfl) dX0_giveBack_37 ⟨Nat.zero_le _, Nat.zero_le _⟩ (fun u H locs hu hw _ _ => ?_)
    rw [hu] at hw
    refine lv_aload_n hx hb dX0_giveBack_40 rfl (lv_at hl 0 rfl) ?_
    refine r0_get X hw 16 (by decide) q48 rfl rfl dX0_giveBack_41 ?_
    refine lv_aload_n hx hb dX0_giveBack_44 rfl (lv_at hl 0 rfl) ?_
    refine r0_get X hw 2 (by decide) q34 rfl rfl dX0_giveBack_45 ?_
    refine lv_aload_n hx hb dX0_giveBack_48 rfl (lv_at hl 0 rfl) ?_
    refine r0_get X hw 14 (by decide) q46 rfl rfl dX0_giveBack_49 ?_
    refine x_top (y := nI f) ((up0_14 _ _).trans eF) ?_
    refine lv_bipush (v := nI 8) hx hb dX0_giveBack_52 (by decide) ?_
    refine lv_imul hx hb dX0_giveBack_54 ?_
    refine lv_aload_n hx hb dX0_giveBack_55 rfl (lv_at hl 0 rfl) ?_
    refine r0_get X hw 15 (by decide) q47 rfl rfl dX0_giveBack_56 ?_
    refine x_top (y := nI p) ((up0_15 _ _).trans eP) ?_
    refine lv_iadd hx hb dX0_giveBack_59 ?_
    refine x_top (y := nI (f * 8 + p)) (by rw [pk_mul, nI_add]) ?_
    refine r0_ald X hw 2 (k := 2) rfl (f * 8 + p) rfl (show (f * 8 + p) < _ by first | assumption | (simp only [fl0]; omega)) dX0_giveBack_60 ?_
    refine x_top (y := nI ra) (by rw [(sm_up0 (su σ 10 co (nI d)) (co * 4 + (d - 1))).2.2.1]; exact era) ?_
    refine lv_iload_n hx hb dX0_giveBack_61 rfl (lv_at hl 2 rfl) ?_
    refine r0_ast X hw 13 (k := 16) rfl ra rfl (show ra < _ by first | assumption | (simp only [fl0]; omega)) dX0_giveBack_62 (fun H locs hw => ?_)
    refine lv_aload_n hx hb dX0_giveBack_63 rfl (lv_at hl 0 rfl) ?_
    refine lv_dup hx hb dX0_giveBack_64 rfl ?_
    refine r0_get X hw 15 (by decide) q47 rfl rfl dX0_giveBack_65 ?_
    refine x_top (y := nI p) ((up0_15 _ _).trans eP) ?_
    refine lv_iconst (v := 1) hx hb dX0_giveBack_68 (by decide) ?_
    refine lv_iadd hx hb dX0_giveBack_69 ?_
    refine r0_putp X hw dX0_giveBack_70 (fun H locs hw => ?_)
    exact hret _ _ _ _ _ dX0_giveBack_73 eU.symm hw
  · obtain rfl : d = 0 := nI_z (by omega) c16
    have hw : wd0 dC dI A sT.heap oA qA dA (su σ 10 co 0) H locs := hw
    refine lv_aload_n hx hb dX0_giveBack_19 rfl (lv_at hl 0 rfl) ?_
    refine lv_iload_n hx hb dX0_giveBack_20 rfl (lv_at hl 1 rfl) ?_
    refine lv_iconst (v := 3) hx hb dX0_giveBack_21 (by decide) ?_
    refine lv_iload_n hx hb dX0_giveBack_22 rfl (lv_at hl 2 rfl) ?_
    refine r0_callv (rest := []) 3 X hA hw (k0_finish l _ co 3 v hco) (lw_V q144 q146 qs11 q22 q147) (by decide +kernel) rfl (by rw [hR]; exact ⟨Nat.le_of_ble_eq_true rfl, Nat.le_of_ble_eq_true rfl⟩) hl.1 rfl (Nat.le_of_ble_eq_true rfl) dX0_giveBack_23 ⟨Nat.zero_le _, Nat.zero_le _⟩ (fun u H locs hu hw _ _ => ?_)
    rw [hu] at hw
    exact hret _ _ _ _ _ dX0_giveBack_26 (by rw [gb, if_pos rfl]) hw

set_option maxHeartbeats 4000000 in
theorem k0_call (l : Launch) (σ : St) (co d f p : Nat) (hco : co < 4) (hd : d < 4) (ed : σ 10 co = nI (d + 1)) (hsz : szw σ) (hrg : rgw σ) (hf : f < 3) (hp : p < 8) (ef : σ 14 0 = nI f) (ep : σ 15 0 = nI p) : Cv0 l yX0_call cX0_call 6 3 73 [.int (nI co), .int (nI (f * 8 + p))] σ (fun u => u = cl σ co d f p) := by
  obtain ⟨⟨ra, hra, era⟩, -⟩ := hrg (f * 8 + p)
  refine e0_v (by decide) rfl (fun _ => Nat.le_of_ble_eq_true rfl) ?_
  intro pG eN R sT mD aR bL mT cD Q dC dI A oA qA dA hR X hA hret ls hl hw
  have hx := X.1.1
  have hb := X.1.2.1
  have hl : lv_has ls 6 [(0, .ref oA), (1, .int (nI co)), (2, .int (nI (f * 8 + p)))] := hl
  refine lv_aload_n hx hb dX0_call_0 rfl (lv_at hl 0 rfl) ?_
  refine r0_get X hw 10 (by decide) q42 rfl rfl dX0_call_1 ?_
  refine lv_iload_n hx hb dX0_call_4 rfl (lv_at hl 1 rfl) ?_
  refine r0_ald X hw 9 (k := 10) rfl co rfl (show co < _ by first | assumption | (simp only [fl0]; omega)) dX0_call_5 ?_
  refine x_top (y := nI (d + 1)) ed ?_
  refine lv_iconst (v := nI 4) hx hb dX0_call_6 (by decide) ?_
  refine lv_icmp_lt (tgt := 18) hx hb dX0_call_7 (by decide) (fun c7 => ?_) (fun c7 => ?_)
  · have hd3 : d < 3 := by have := (nI_ltI (by omega) (by decide)).mp c7; omega
    refine lv_aload_n hx hb dX0_call_18 rfl (lv_at hl 0 rfl) ?_
    refine r0_get X hw 16 (by decide) q48 rfl rfl dX0_call_19 ?_
    refine lv_aload_n hx hb dX0_call_22 rfl (lv_at hl 0 rfl) ?_
    refine r0_get X hw 2 (by decide) q34 rfl rfl dX0_call_23 ?_
    refine lv_iload_n hx hb dX0_call_26 rfl (lv_at hl 2 rfl) ?_
    refine r0_ald X hw 2 (k := 2) rfl (f * 8 + p) rfl (show (f * 8 + p) < _ by first | assumption | (simp only [fl0]; omega)) dX0_call_27 ?_
    refine x_top (y := nI ra) era ?_
    refine r0_ald X hw 13 (k := 16) rfl ra rfl (show ra < _ by first | assumption | (simp only [fl0]; omega)) dX0_call_28 ?_
    refine lv_istore_n (lv' := [(3, .int (σ 16 ra)), (0, .ref oA), (1, .int (nI co)), (2, .int (nI (f * 8 + p)))]) hx hb dX0_call_29 rfl hl (by decide) rfl (fun ls hl => ?_)
    refine lv_aload_n hx hb dX0_call_30 rfl (lv_at hl 1 rfl) ?_
    refine lv_iload_n hx hb dX0_call_31 rfl (lv_at hl 2 rfl) ?_
    refine lv_aload_n hx hb dX0_call_32 rfl (lv_at hl 1 rfl) ?_
    refine r0_get X hw 10 (by decide) q42 rfl rfl dX0_call_33 ?_
    refine lv_iload_n hx hb dX0_call_36 rfl (lv_at hl 2 rfl) ?_
    refine r0_ald X hw 9 (k := 10) rfl co rfl (show co < _ by first | assumption | (simp only [fl0]; omega)) dX0_call_37 ?_
    refine x_top (y := nI (d + 1)) ed ?_
    refine lv_iconst (v := 1) hx hb dX0_call_38 (by decide) ?_
    refine lv_isub hx hb dX0_call_39 ?_
    refine x_top (y := nI d) (nI_pred d) ?_
    refine r0_callv (rest := []) 2 X hA hw (k0_pack l σ co d f p hco hd hf hp ef ep hsz) (lw_V q152 q154 qs13 q22 q155) (by decide +kernel) rfl (by rw [hR]; exact ⟨Nat.le_of_ble_eq_true rfl, Nat.le_of_ble_eq_true rfl⟩) hl.1 rfl (Nat.le_of_ble_eq_true rfl) dX0_call_40 ⟨Nat.zero_le _, Nat.zero_le _⟩ (fun u H locs hu hw _ _ => ?_)
    rw [hu] at hw
    refine lv_aload_n hx hb dX0_call_43 rfl (lv_at hl 1 rfl) ?_
    refine r0_get X hw 10 (by decide) q42 rfl rfl dX0_call_44 ?_
    refine lv_iload_n hx hb dX0_call_47 rfl (lv_at hl 2 rfl) ?_
    refine lv_dup2_11 hx hb dX0_call_48 rfl rfl ?_
    refine r0_ald X hw 9 (k := 10) rfl co rfl (show co < _ by first | assumption | (simp only [fl0]; omega)) dX0_call_49 ?_
    refine x_top (y := nI (d + 1)) (by rw [pk_ne _ _ _ _ (by decide) (by decide) (by decide)]; exact ed) ?_
    refine lv_iconst (v := 1) hx hb dX0_call_50 (by decide) ?_
    refine lv_iadd hx hb dX0_call_51 ?_
    refine x_top (y := nI (d + 2)) (nI_1 _) ?_
    refine r0_ast X hw 9 (k := 10) rfl co rfl (show co < _ by first | assumption | (simp only [fl0]; omega)) dX0_call_52 (fun H locs hw => ?_)
    refine lv_aload_n hx hb dX0_call_53 rfl (lv_at hl 1 rfl) ?_
    refine r0_get X hw 4 (by decide) q36 rfl rfl dX0_call_54 ?_
    refine lv_iload_n hx hb dX0_call_57 rfl (lv_at hl 3 rfl) ?_
    refine r0_ald X hw 4 (k := 4) rfl (f * 8 + p) rfl (show (f * 8 + p) < _ by first | assumption | (simp only [fl0]; omega)) dX0_call_58 ?_
    refine x_top (y := σ 4 (f * 8 + p)) (by rw [su_ne (by decide), pk_ne _ _ _ _ (by decide) (by decide) (by decide)]) ?_
    refine lv_iconst (v := 3) hx hb dX0_call_59 (by decide) ?_
    refine lv_irem hx hb dX0_call_60 (by decide) ?_
    refine lv_istore (lv' := [(4, .int ((σ 4 (f * 8 + p)) - (σ 4 (f * 8 + p)) / 3 * 3)), (3, .int (σ 16 ra)), (0, .ref oA), (1, .int (nI co)), (2, .int (nI (f * 8 + p)))]) hx hb dX0_call_61 hl (by decide) rfl (fun ls hl => ?_)
    refine lv_aload_n hx hb dX0_call_63 rfl (lv_at hl 2 rfl) ?_
    refine lv_iload hx hb dX0_call_64 (lv_at hl 0 rfl) ?_
    refine lv_if_ge (tgt := 76) hx hb dX0_call_66 (by decide) (fun c66 => ?_) (fun c66 => ?_)
    · refine lv_iload hx hb dX0_call_76 (lv_at hl 0 rfl) ?_
      refine x_top (y := md3 (σ 4 (f * 8 + p))) (by rw [md3, if_neg (Int32.not_lt.mpr c66)]) ?_
      refine r0_putf X hw dX0_call_78 (fun H locs hw => ?_)
      refine lv_aload_n hx hb dX0_call_81 rfl (lv_at hl 2 rfl) ?_
      refine lv_iconst (v := 0) hx hb dX0_call_82 (by decide) ?_
      refine r0_putp X hw dX0_call_83 (fun H locs hw => ?_)
      refine lv_iconst (v := 0) hx hb dX0_call_86 (by decide) ?_
      refine lv_istore (lv' := [(5, .int 0), (4, .int ((σ 4 (f * 8 + p)) - (σ 4 (f * 8 + p)) / 3 * 3)), (3, .int (σ 16 ra)), (0, .ref oA), (1, .int (nI co)), (2, .int (nI (f * 8 + p)))]) hx hb dX0_call_87 hl (by decide) rfl (fun ls hl => ?_)
      have loop : ∀ (k : Nat) (r : Nat) (H : Heap) (locs : List Loc) (ls : Array Slot), r + k = 4 → lv_has ls 6 [(0, .ref oA), (3, .int (σ 16 ra)), (5, .int (nI r))] → wd0 dC dI A sT.heap oA qA dA (zrL (su (su (su (pk σ (co * 4 + d) f p) 10 co (nI (d + 2))) 14 0 (md3 (σ 4 (f * 8 + p)))) 15 0 0) r) H locs → W pG l eN R sT mD aR bL mT cD H locs 0 0 Q (F0 mD 89 ls []) := by
        intro k
        induction k with
        | zero =>
          intro r H locs ls hk hl hw
          obtain rfl : r = 4 := by omega
          refine lv_iload hx hb dX0_call_89 (lv_at hl 2 rfl) ?_
          refine lv_iconst (v := nI 4) hx hb dX0_call_91 (by decide) ?_
          refine lv_icmp_ge (tgt := 109) hx hb dX0_call_92 (by decide) (fun c92 => ?_) (fun c92 => ?_)
          · refine lv_aload_n hx hb dX0_call_109 rfl (lv_at hl 0 rfl) ?_
            refine r0_get X hw 16 (by decide) q48 rfl rfl dX0_call_110 ?_
            refine lv_iconst (v := 0) hx hb dX0_call_113 (by decide) ?_
            refine lv_iload_n hx hb dX0_call_114 rfl (lv_at hl 1 rfl) ?_
            refine r0_ast X hw 13 (k := 16) rfl 0 rfl (by decide) dX0_call_115 (fun H locs hw => ?_)
            exact hret _ _ _ _ _ dX0_call_116 (by rw [cl, if_neg (show ¬ 3 ≤ d by omega), era, cn_nI (by omega)]) hw
          · exact absurd (nI_le (by omega) (by decide)) c92
        | succ k ih =>
          intro r H locs ls hk hl hw
          refine lv_iload hx hb dX0_call_89 (lv_at hl 2 rfl) ?_
          refine lv_iconst (v := nI 4) hx hb dX0_call_91 (by decide) ?_
          refine lv_icmp_ge (tgt := 109) hx hb dX0_call_92 (by decide) (fun c92 => ?_) (fun c92 => ?_)
          · exact absurd c92 (nI_ge (by omega) (by decide))
          · refine lv_aload_n hx hb dX0_call_95 rfl (lv_at hl 0 rfl) ?_
            refine r0_get X hw 16 (by decide) q48 rfl rfl dX0_call_96 ?_
            refine lv_iload hx hb dX0_call_99 (lv_at hl 2 rfl) ?_
            refine lv_iconst (v := 0) hx hb dX0_call_101 (by decide) ?_
            refine r0_ast X hw 13 (k := 16) rfl r rfl (show r < _ by first | assumption | (simp only [fl0]; omega)) dX0_call_102 (fun H locs hw => ?_)
            refine lv_iinc (v := nI (r + 1)) (lv' := [(5, .int (nI (r + 1))), (0, .ref oA), (3, .int (σ 16 ra))]) hx hb dX0_call_103 hl (k := 2) rfl (nI_1 _) (by decide) rfl (fun ls hl => ?_)
            refine lv_goto (tgt := 89) hx hb dX0_call_106 (by decide) ?_
            exact ih (r + 1) _ _ _ (by omega) (lv_sub hl [1, 2, 0] rfl) hw
      exact loop 4 0 _ _ _ rfl (lv_sub hl [3, 2, 0] rfl) hw
    · refine lv_iload hx hb dX0_call_69 (lv_at hl 0 rfl) ?_
      refine lv_iconst (v := 3) hx hb dX0_call_71 (by decide) ?_
      refine lv_iadd hx hb dX0_call_72 ?_
      refine x_top (y := md3 (σ 4 (f * 8 + p))) (by rw [md3, if_pos (Int32.not_le.mp c66)]) ?_
      refine lv_goto (tgt := 78) hx hb dX0_call_73 (by decide) ?_
      refine r0_putf X hw dX0_call_78 (fun H locs hw => ?_)
      refine lv_aload_n hx hb dX0_call_81 rfl (lv_at hl 2 rfl) ?_
      refine lv_iconst (v := 0) hx hb dX0_call_82 (by decide) ?_
      refine r0_putp X hw dX0_call_83 (fun H locs hw => ?_)
      refine lv_iconst (v := 0) hx hb dX0_call_86 (by decide) ?_
      refine lv_istore (lv' := [(5, .int 0), (4, .int ((σ 4 (f * 8 + p)) - (σ 4 (f * 8 + p)) / 3 * 3)), (3, .int (σ 16 ra)), (0, .ref oA), (1, .int (nI co)), (2, .int (nI (f * 8 + p)))]) hx hb dX0_call_87 hl (by decide) rfl (fun ls hl => ?_)
      have loop : ∀ (k : Nat) (r : Nat) (H : Heap) (locs : List Loc) (ls : Array Slot), r + k = 4 → lv_has ls 6 [(0, .ref oA), (3, .int (σ 16 ra)), (5, .int (nI r))] → wd0 dC dI A sT.heap oA qA dA (zrL (su (su (su (pk σ (co * 4 + d) f p) 10 co (nI (d + 2))) 14 0 (md3 (σ 4 (f * 8 + p)))) 15 0 0) r) H locs → W pG l eN R sT mD aR bL mT cD H locs 0 0 Q (F0 mD 89 ls []) := by
        intro k
        induction k with
        | zero =>
          intro r H locs ls hk hl hw
          obtain rfl : r = 4 := by omega
          refine lv_iload hx hb dX0_call_89 (lv_at hl 2 rfl) ?_
          refine lv_iconst (v := nI 4) hx hb dX0_call_91 (by decide) ?_
          refine lv_icmp_ge (tgt := 109) hx hb dX0_call_92 (by decide) (fun c92 => ?_) (fun c92 => ?_)
          · refine lv_aload_n hx hb dX0_call_109 rfl (lv_at hl 0 rfl) ?_
            refine r0_get X hw 16 (by decide) q48 rfl rfl dX0_call_110 ?_
            refine lv_iconst (v := 0) hx hb dX0_call_113 (by decide) ?_
            refine lv_iload_n hx hb dX0_call_114 rfl (lv_at hl 1 rfl) ?_
            refine r0_ast X hw 13 (k := 16) rfl 0 rfl (by decide) dX0_call_115 (fun H locs hw => ?_)
            exact hret _ _ _ _ _ dX0_call_116 (by rw [cl, if_neg (show ¬ 3 ≤ d by omega), era, cn_nI (by omega)]) hw
          · exact absurd (nI_le (by omega) (by decide)) c92
        | succ k ih =>
          intro r H locs ls hk hl hw
          refine lv_iload hx hb dX0_call_89 (lv_at hl 2 rfl) ?_
          refine lv_iconst (v := nI 4) hx hb dX0_call_91 (by decide) ?_
          refine lv_icmp_ge (tgt := 109) hx hb dX0_call_92 (by decide) (fun c92 => ?_) (fun c92 => ?_)
          · exact absurd c92 (nI_ge (by omega) (by decide))
          · refine lv_aload_n hx hb dX0_call_95 rfl (lv_at hl 0 rfl) ?_
            refine r0_get X hw 16 (by decide) q48 rfl rfl dX0_call_96 ?_
            refine lv_iload hx hb dX0_call_99 (lv_at hl 2 rfl) ?_
            refine lv_iconst (v := 0) hx hb dX0_call_101 (by decide) ?_
            refine r0_ast X hw 13 (k := 16) rfl r rfl (show r < _ by first | assumption | (simp only [fl0]; omega)) dX0_call_102 (fun H locs hw => ?_)
            refine lv_iinc (v := nI (r + 1)) (lv' := [(5, .int (nI (r + 1))), (0, .ref oA), (3, .int (σ 16 ra))]) hx hb dX0_call_103 hl (k := 2) rfl (nI_1 _) (by decide) rfl (fun ls hl => ?_)
            refine lv_goto (tgt := 89) hx hb dX0_call_106 (by decide) ?_
            exact ih (r + 1) _ _ _ (by omega) (lv_sub hl [1, 2, 0] rfl) hw
      exact loop 4 0 _ _ _ rfl (lv_sub hl [3, 2, 0] rfl) hw
  · have hd3 : 3 ≤ d := by have := mt (nI_ltI (a := d + 1) (b := 4) (by omega) (by decide)).mpr c7; omega
    refine lv_aload_n hx hb dX0_call_10 rfl (lv_at hl 0 rfl) ?_
    refine lv_iload_n hx hb dX0_call_11 rfl (lv_at hl 1 rfl) ?_
    refine lv_iconst (v := 4) hx hb dX0_call_12 (by decide) ?_
    refine lv_iconst (v := 0) hx hb dX0_call_13 (by decide) ?_
    refine r0_callv (rest := []) 3 X hA hw (k0_finish l σ co 4 0 hco) (lw_V q144 q146 qs11 q22 q147) (by decide +kernel) rfl (by rw [hR]; exact ⟨Nat.le_of_ble_eq_true rfl, Nat.le_of_ble_eq_true rfl⟩) hl.1 rfl (Nat.le_of_ble_eq_true rfl) dX0_call_14 ⟨Nat.zero_le _, Nat.zero_le _⟩ (fun u H locs hu hw _ _ => ?_)
    rw [hu] at hw
    exact hret _ _ _ _ _ dX0_call_17 (by rw [cl, if_pos hd3]) hw

set_option maxHeartbeats 4000000 in
theorem k0_perform (l : Launch) (σ : St) (co d f p : Nat) (hco : co < 4) (hd : d < 4) (ed : σ 10 co = nI (d + 1)) (hsz : szw σ) (hrg : rgw σ) (hf : f < 3) (hp : p < 8) (ef : σ 14 0 = nI f) (ep : σ 15 0 = nI p) (hfr : frw σ co d) : Cv0 l yX0_perform cX0_perform 5 4 98 [.int (nI co)] σ (fun u => u = prf σ co d f p) := by
  obtain ⟨⟨ra, hra, era⟩, ⟨rb, hrb, erb⟩⟩ := hrg (f * 8 + p)
  have cn_a : cn (σ 2 (f * 8 + p)) = ra := by rw [era]; exact cn_nI (by omega)
  have cn_b : cn (σ 3 (f * 8 + p)) = rb := by rw [erb]; exact cn_nI (by omega)
  refine e0_v (by decide) rfl (fun _ => Nat.le_of_ble_eq_true rfl) ?_
  intro pG eN R sT mD aR bL mT cD Q dC dI A oA qA dA hR X hA hret ls hl hw
  have hx := X.1.1
  have hb := X.1.2.1
  have hl : lv_has ls 5 [(0, .ref oA), (1, .int (nI co))] := hl
  refine lv_aload_n hx hb dX0_perform_0 rfl (lv_at hl 0 rfl) ?_
  refine r0_get X hw 14 (by decide) q46 rfl rfl dX0_perform_1 ?_
  refine x_top (y := nI f) ef ?_
  refine lv_bipush (v := nI 8) hx hb dX0_perform_4 (by decide) ?_
  refine lv_imul hx hb dX0_perform_6 ?_
  refine lv_aload_n hx hb dX0_perform_7 rfl (lv_at hl 0 rfl) ?_
  refine r0_get X hw 15 (by decide) q47 rfl rfl dX0_perform_8 ?_
  refine x_top (y := nI p) ep ?_
  refine lv_iadd hx hb dX0_perform_11 ?_
  refine x_top (y := nI (f * 8 + p)) (by rw [pk_mul, nI_add]) ?_
  refine lv_istore_n (lv' := [(2, .int (nI (f * 8 + p))), (0, .ref oA), (1, .int (nI co))]) hx hb dX0_perform_12 rfl hl (by decide) rfl (fun ls hl => ?_)
  refine lv_aload_n hx hb dX0_perform_13 rfl (lv_at hl 1 rfl) ?_
  refine r0_get X hw 2 (by decide) q34 rfl rfl dX0_perform_14 ?_
  refine lv_iload_n hx hb dX0_perform_17 rfl (lv_at hl 0 rfl) ?_
  refine r0_ald X hw 2 (k := 2) rfl (f * 8 + p) rfl (show (f * 8 + p) < _ by first | assumption | (simp only [fl0]; omega)) dX0_perform_18 ?_
  refine x_top (y := nI ra) era ?_
  refine lv_istore_n (lv' := [(3, .int (nI ra)), (2, .int (nI (f * 8 + p))), (0, .ref oA), (1, .int (nI co))]) hx hb dX0_perform_19 rfl hl (by decide) rfl (fun ls hl => ?_)
  refine lv_aload_n hx hb dX0_perform_20 rfl (lv_at hl 2 rfl) ?_
  refine r0_get X hw 3 (by decide) q35 rfl rfl dX0_perform_21 ?_
  refine lv_iload_n hx hb dX0_perform_24 rfl (lv_at hl 1 rfl) ?_
  refine r0_ald X hw 3 (k := 3) rfl (f * 8 + p) rfl (show (f * 8 + p) < _ by first | assumption | (simp only [fl0]; omega)) dX0_perform_25 ?_
  refine x_top (y := nI rb) erb ?_
  refine lv_istore (lv' := [(4, .int (nI rb)), (3, .int (nI ra)), (2, .int (nI (f * 8 + p))), (0, .ref oA), (1, .int (nI co))]) hx hb dX0_perform_26 hl (by decide) rfl (fun ls hl => ?_)
  refine lv_aload_n hx hb dX0_perform_28 rfl (lv_at hl 3 rfl) ?_
  refine r0_get X hw 1 (by decide) q33 rfl rfl dX0_perform_29 ?_
  refine lv_iload_n hx hb dX0_perform_32 rfl (lv_at hl 2 rfl) ?_
  refine r0_ald X hw 1 (k := 1) rfl (f * 8 + p) rfl (show (f * 8 + p) < _ by first | assumption | (simp only [fl0]; omega)) dX0_perform_33 ?_
  by_cases o0 : σ 1 (f * 8 + p) = 0
  · refine lv_tableIn (tgt := 76) (off := 42) hx hb dX0_perform_34 (by rw [o0]; decide) (by rw [o0]; decide) (by rw [o0]; rfl) (by decide) ?_
    refine lv_aload_n hx hb dX0_perform_76 rfl (lv_at hl 3 rfl) ?_
    refine r0_get X hw 16 (by decide) q48 rfl rfl dX0_perform_77 ?_
    refine lv_iload_n hx hb dX0_perform_80 rfl (lv_at hl 1 rfl) ?_
    refine lv_aload_n hx hb dX0_perform_81 rfl (lv_at hl 3 rfl) ?_
    refine r0_get X hw 4 (by decide) q36 rfl rfl dX0_perform_82 ?_
    refine lv_iload_n hx hb dX0_perform_85 rfl (lv_at hl 2 rfl) ?_
    refine r0_ald X hw 4 (k := 4) rfl (f * 8 + p) rfl (show (f * 8 + p) < _ by first | assumption | (simp only [fl0]; omega)) dX0_perform_86 ?_
    refine r0_ast X hw 13 (k := 16) rfl ra rfl (show ra < _ by first | assumption | (simp only [fl0]; omega)) dX0_perform_87 (fun H locs hw => ?_)
    refine lv_goto (tgt := 229) hx hb dX0_perform_88 (by decide) ?_
    refine lv_aload_n hx hb dX0_perform_229 rfl (lv_at hl 3 rfl) ?_
    refine lv_dup hx hb dX0_perform_230 rfl ?_
    refine r0_get X hw 15 (by decide) q47 rfl rfl dX0_perform_231 ?_
    refine x_top (y := nI p) ep ?_
    refine lv_iconst (v := 1) hx hb dX0_perform_234 (by decide) ?_
    refine lv_iadd hx hb dX0_perform_235 ?_
    refine x_top (y := nI (p + 1)) (nI_1 _) ?_
    refine r0_putp X hw dX0_perform_236 (fun H locs hw => ?_)
    exact hret _ _ _ _ _ dX0_perform_239 (by rw [prf, if_pos o0, cn_a]) hw
  by_cases o1 : σ 1 (f * 8 + p) = 1
  · refine lv_tableIn (tgt := 91) (off := 57) hx hb dX0_perform_34 (by rw [o1]; decide) (by rw [o1]; decide) (by rw [o1]; rfl) (by decide) ?_
    refine lv_aload_n hx hb dX0_perform_91 rfl (lv_at hl 3 rfl) ?_
    refine r0_get X hw 16 (by decide) q48 rfl rfl dX0_perform_92 ?_
    refine lv_iload_n hx hb dX0_perform_95 rfl (lv_at hl 1 rfl) ?_
    refine lv_aload_n hx hb dX0_perform_96 rfl (lv_at hl 3 rfl) ?_
    refine r0_get X hw 16 (by decide) q48 rfl rfl dX0_perform_97 ?_
    refine lv_iload_n hx hb dX0_perform_100 rfl (lv_at hl 1 rfl) ?_
    refine r0_ald X hw 13 (k := 16) rfl ra rfl (show ra < _ by first | assumption | (simp only [fl0]; omega)) dX0_perform_101 ?_
    refine lv_aload_n hx hb dX0_perform_102 rfl (lv_at hl 3 rfl) ?_
    refine r0_get X hw 16 (by decide) q48 rfl rfl dX0_perform_103 ?_
    refine lv_iload hx hb dX0_perform_106 (lv_at hl 0 rfl) ?_
    refine r0_ald X hw 13 (k := 16) rfl rb rfl (show rb < _ by first | assumption | (simp only [fl0]; omega)) dX0_perform_108 ?_
    refine lv_iadd hx hb dX0_perform_109 ?_
    refine r0_ast X hw 13 (k := 16) rfl ra rfl (show ra < _ by first | assumption | (simp only [fl0]; omega)) dX0_perform_110 (fun H locs hw => ?_)
    refine lv_goto (tgt := 229) hx hb dX0_perform_111 (by decide) ?_
    refine lv_aload_n hx hb dX0_perform_229 rfl (lv_at hl 3 rfl) ?_
    refine lv_dup hx hb dX0_perform_230 rfl ?_
    refine r0_get X hw 15 (by decide) q47 rfl rfl dX0_perform_231 ?_
    refine x_top (y := nI p) ep ?_
    refine lv_iconst (v := 1) hx hb dX0_perform_234 (by decide) ?_
    refine lv_iadd hx hb dX0_perform_235 ?_
    refine x_top (y := nI (p + 1)) (nI_1 _) ?_
    refine r0_putp X hw dX0_perform_236 (fun H locs hw => ?_)
    exact hret _ _ _ _ _ dX0_perform_239 (by rw [prf, if_neg o0, if_pos o1, cn_a, cn_b]) hw
  by_cases o2 : σ 1 (f * 8 + p) = 2
  · refine lv_tableIn (tgt := 114) (off := 80) hx hb dX0_perform_34 (by rw [o2]; decide) (by rw [o2]; decide) (by rw [o2]; rfl) (by decide) ?_
    refine lv_aload_n hx hb dX0_perform_114 rfl (lv_at hl 3 rfl) ?_
    refine r0_get X hw 16 (by decide) q48 rfl rfl dX0_perform_115 ?_
    refine lv_iload_n hx hb dX0_perform_118 rfl (lv_at hl 1 rfl) ?_
    refine lv_aload_n hx hb dX0_perform_119 rfl (lv_at hl 3 rfl) ?_
    refine r0_get X hw 16 (by decide) q48 rfl rfl dX0_perform_120 ?_
    refine lv_iload_n hx hb dX0_perform_123 rfl (lv_at hl 1 rfl) ?_
    refine r0_ald X hw 13 (k := 16) rfl ra rfl (show ra < _ by first | assumption | (simp only [fl0]; omega)) dX0_perform_124 ?_
    refine lv_aload_n hx hb dX0_perform_125 rfl (lv_at hl 3 rfl) ?_
    refine r0_get X hw 16 (by decide) q48 rfl rfl dX0_perform_126 ?_
    refine lv_iload hx hb dX0_perform_129 (lv_at hl 0 rfl) ?_
    refine r0_ald X hw 13 (k := 16) rfl rb rfl (show rb < _ by first | assumption | (simp only [fl0]; omega)) dX0_perform_131 ?_
    refine lv_isub hx hb dX0_perform_132 ?_
    refine r0_ast X hw 13 (k := 16) rfl ra rfl (show ra < _ by first | assumption | (simp only [fl0]; omega)) dX0_perform_133 (fun H locs hw => ?_)
    refine lv_goto (tgt := 229) hx hb dX0_perform_134 (by decide) ?_
    refine lv_aload_n hx hb dX0_perform_229 rfl (lv_at hl 3 rfl) ?_
    refine lv_dup hx hb dX0_perform_230 rfl ?_
    refine r0_get X hw 15 (by decide) q47 rfl rfl dX0_perform_231 ?_
    refine x_top (y := nI p) ep ?_
    refine lv_iconst (v := 1) hx hb dX0_perform_234 (by decide) ?_
    refine lv_iadd hx hb dX0_perform_235 ?_
    refine x_top (y := nI (p + 1)) (nI_1 _) ?_
    refine r0_putp X hw dX0_perform_236 (fun H locs hw => ?_)
    exact hret _ _ _ _ _ dX0_perform_239 (by rw [prf, if_neg o0, if_neg o1, if_pos o2, cn_a, cn_b]) hw
  by_cases o3 : σ 1 (f * 8 + p) = 3
  · refine lv_tableIn (tgt := 137) (off := 103) hx hb dX0_perform_34 (by rw [o3]; decide) (by rw [o3]; decide) (by rw [o3]; rfl) (by decide) ?_
    refine lv_aload_n hx hb dX0_perform_137 rfl (lv_at hl 3 rfl) ?_
    refine lv_aload_n hx hb dX0_perform_138 rfl (lv_at hl 3 rfl) ?_
    refine r0_get X hw 4 (by decide) q36 rfl rfl dX0_perform_139 ?_
    refine lv_iload_n hx hb dX0_perform_142 rfl (lv_at hl 2 rfl) ?_
    refine r0_ald X hw 4 (k := 4) rfl (f * 8 + p) rfl (show (f * 8 + p) < _ by first | assumption | (simp only [fl0]; omega)) dX0_perform_143 ?_
    refine r0_putp X hw dX0_perform_144 (fun H locs hw => ?_)
    exact hret _ _ _ _ _ dX0_perform_147 (by rw [prf, if_neg o0, if_neg o1, if_neg o2, if_pos o3]) hw
  by_cases o4 : σ 1 (f * 8 + p) = 4
  · refine lv_tableIn (tgt := 148) (off := 114) hx hb dX0_perform_34 (by rw [o4]; decide) (by rw [o4]; decide) (by rw [o4]; rfl) (by decide) ?_
    refine lv_aload_n hx hb dX0_perform_148 rfl (lv_at hl 3 rfl) ?_
    refine lv_aload_n hx hb dX0_perform_149 rfl (lv_at hl 3 rfl) ?_
    refine r0_get X hw 16 (by decide) q48 rfl rfl dX0_perform_150 ?_
    refine lv_iload_n hx hb dX0_perform_153 rfl (lv_at hl 1 rfl) ?_
    refine r0_ald X hw 13 (k := 16) rfl ra rfl (show ra < _ by first | assumption | (simp only [fl0]; omega)) dX0_perform_154 ?_
    refine lv_if_le (tgt := 167) hx hb dX0_perform_155 (by decide) (fun c155 => ?_) (fun c155 => ?_)
    · refine lv_aload_n hx hb dX0_perform_167 rfl (lv_at hl 3 rfl) ?_
      refine r0_get X hw 15 (by decide) q47 rfl rfl dX0_perform_168 ?_
      refine x_top (y := nI p) ep ?_
      refine lv_iconst (v := 1) hx hb dX0_perform_171 (by decide) ?_
      refine lv_iadd hx hb dX0_perform_172 ?_
      refine x_top (y := nI (p + 1)) (nI_1 _) ?_
      refine r0_putp X hw dX0_perform_173 (fun H locs hw => ?_)
      exact hret _ _ _ _ _ dX0_perform_176 (by rw [prf, if_neg o0, if_neg o1, if_neg o2, if_neg o3, if_pos o4, cn_a, if_pos c155]) hw
    · refine lv_aload_n hx hb dX0_perform_158 rfl (lv_at hl 3 rfl) ?_
      refine r0_get X hw 4 (by decide) q36 rfl rfl dX0_perform_159 ?_
      refine lv_iload_n hx hb dX0_perform_162 rfl (lv_at hl 2 rfl) ?_
      refine r0_ald X hw 4 (k := 4) rfl (f * 8 + p) rfl (show (f * 8 + p) < _ by first | assumption | (simp only [fl0]; omega)) dX0_perform_163 ?_
      refine lv_goto (tgt := 173) hx hb dX0_perform_164 (by decide) ?_
      refine r0_putp X hw dX0_perform_173 (fun H locs hw => ?_)
      exact hret _ _ _ _ _ dX0_perform_176 (by rw [prf, if_neg o0, if_neg o1, if_neg o2, if_neg o3, if_pos o4, cn_a, if_neg c155]) hw
  by_cases o5 : σ 1 (f * 8 + p) = 5
  · refine lv_tableIn (tgt := 177) (off := 143) hx hb dX0_perform_34 (by rw [o5]; decide) (by rw [o5]; decide) (by rw [o5]; rfl) (by decide) ?_
    refine lv_aload_n hx hb dX0_perform_177 rfl (lv_at hl 3 rfl) ?_
    refine r0_get X hw 7 (by decide) q39 rfl rfl dX0_perform_178 ?_
    refine lv_iload_n hx hb dX0_perform_181 rfl (lv_at hl 4 rfl) ?_
    refine lv_iconst (v := 2) hx hb dX0_perform_182 (by decide) ?_
    refine r0_ast X hw 6 (k := 7) rfl co rfl (show co < _ by first | assumption | (simp only [fl0]; omega)) dX0_perform_183 (fun H locs hw => ?_)
    refine lv_aload_n hx hb dX0_perform_184 rfl (lv_at hl 3 rfl) ?_
    refine r0_get X hw 8 (by decide) q40 rfl rfl dX0_perform_185 ?_
    refine lv_iload_n hx hb dX0_perform_188 rfl (lv_at hl 4 rfl) ?_
    refine lv_aload_n hx hb dX0_perform_189 rfl (lv_at hl 3 rfl) ?_
    refine r0_get X hw 16 (by decide) q48 rfl rfl dX0_perform_190 ?_
    refine lv_iload_n hx hb dX0_perform_193 rfl (lv_at hl 1 rfl) ?_
    refine r0_ald X hw 13 (k := 16) rfl ra rfl (show ra < _ by first | assumption | (simp only [fl0]; omega)) dX0_perform_194 ?_
    refine x_top (y := σ 16 ra) rfl ?_
    refine r0_ast X hw 7 (k := 8) rfl co rfl (show co < _ by first | assumption | (simp only [fl0]; omega)) dX0_perform_195 (fun H locs hw => ?_)
    refine lv_aload_n hx hb dX0_perform_196 rfl (lv_at hl 3 rfl) ?_
    refine lv_iload_n hx hb dX0_perform_197 rfl (lv_at hl 4 rfl) ?_
    refine lv_aload_n hx hb dX0_perform_198 rfl (lv_at hl 3 rfl) ?_
    refine r0_get X hw 10 (by decide) q42 rfl rfl dX0_perform_199 ?_
    refine lv_iload_n hx hb dX0_perform_202 rfl (lv_at hl 4 rfl) ?_
    refine r0_ald X hw 9 (k := 10) rfl co rfl (show co < _ by first | assumption | (simp only [fl0]; omega)) dX0_perform_203 ?_
    refine x_top (y := nI (d + 1)) ed ?_
    refine lv_iconst (v := 1) hx hb dX0_perform_204 (by decide) ?_
    refine lv_isub hx hb dX0_perform_205 ?_
    refine x_top (y := nI d) (nI_pred d) ?_
    refine r0_callv (rest := []) 2 X hA hw (k0_pack l (su (su σ 7 co 2) 8 co (σ 16 ra)) co d f p hco hd hf hp ef ep (szw_sm (sm_su (sm_su (sm_rf σ) (by decide)) (by decide)) hsz)) (lw_V q152 q154 qs13 q22 q155) (by decide +kernel) rfl (by rw [hR]; exact ⟨Nat.le_of_ble_eq_true rfl, Nat.le_of_ble_eq_true rfl⟩) hl.1 rfl (Nat.le_of_ble_eq_true rfl) dX0_perform_206 ⟨Nat.zero_le _, Nat.zero_le _⟩ (fun u H locs hu hw _ _ => ?_)
    rw [hu] at hw
    exact hret _ _ _ _ _ dX0_perform_209 (by rw [prf, if_neg o0, if_neg o1, if_neg o2, if_neg o3, if_neg o4, if_pos o5, cn_a]) hw
  by_cases o6 : σ 1 (f * 8 + p) = 6
  · refine lv_tableIn (tgt := 210) (off := 176) hx hb dX0_perform_34 (by rw [o6]; decide) (by rw [o6]; decide) (by rw [o6]; rfl) (by decide) ?_
    refine lv_aload_n hx hb dX0_perform_210 rfl (lv_at hl 3 rfl) ?_
    refine lv_iload_n hx hb dX0_perform_211 rfl (lv_at hl 4 rfl) ?_
    refine lv_iload_n hx hb dX0_perform_212 rfl (lv_at hl 2 rfl) ?_
    refine r0_callv (rest := []) 2 X hA hw (k0_call l σ co d f p hco hd ed hsz hrg hf hp ef ep) (lw_V q156 q158 qs14 q22 q159) (by decide +kernel) rfl (by rw [hR]; exact ⟨Nat.le_of_ble_eq_true rfl, Nat.le_of_ble_eq_true rfl⟩) hl.1 rfl (Nat.le_of_ble_eq_true rfl) dX0_perform_213 ⟨Nat.zero_le _, Nat.zero_le _⟩ (fun u H locs hu hw _ _ => ?_)
    rw [hu] at hw
    exact hret _ _ _ _ _ dX0_perform_216 (by rw [prf, if_neg o0, if_neg o1, if_neg o2, if_neg o3, if_neg o4, if_neg o5, if_pos o6]) hw
  have no0 := lv_neT o0 (show (0 : Int32).toInt = 0 by decide)
  have no1 := lv_neT o1 (show (1 : Int32).toInt = 1 by decide)
  have no2 := lv_neT o2 (show (2 : Int32).toInt = 2 by decide)
  have no3 := lv_neT o3 (show (3 : Int32).toInt = 3 by decide)
  have no4 := lv_neT o4 (show (4 : Int32).toInt = 4 by decide)
  have no5 := lv_neT o5 (show (5 : Int32).toInt = 5 by decide)
  have no6 := lv_neT o6 (show (6 : Int32).toInt = 6 by decide)
  refine lv_tableOut (tgt := 217) hx hb dX0_perform_34 (by omega) (by decide) ?_
  refine lv_aload_n hx hb dX0_perform_217 rfl (lv_at hl 3 rfl) ?_
  refine lv_iload_n hx hb dX0_perform_218 rfl (lv_at hl 4 rfl) ?_
  refine lv_aload_n hx hb dX0_perform_219 rfl (lv_at hl 3 rfl) ?_
  refine r0_get X hw 16 (by decide) q48 rfl rfl dX0_perform_220 ?_
  refine lv_iload_n hx hb dX0_perform_223 rfl (lv_at hl 1 rfl) ?_
  refine r0_ald X hw 13 (k := 16) rfl ra rfl (show ra < _ by first | assumption | (simp only [fl0]; omega)) dX0_perform_224 ?_
  refine r0_callv (rest := []) 2 X hA hw (k0_giveBack l σ co d (σ 16 ra) hco hd ed hsz hrg hfr) (lw_V q140 q142 qs10 q22 q143) (by decide +kernel) rfl (by rw [hR]; exact ⟨Nat.le_of_ble_eq_true rfl, Nat.le_of_ble_eq_true rfl⟩) hl.1 rfl (Nat.le_of_ble_eq_true rfl) dX0_perform_225 ⟨Nat.zero_le _, Nat.zero_le _⟩ (fun u H locs hu hw _ _ => ?_)
  rw [hu] at hw
  exact hret _ _ _ _ _ dX0_perform_228 (by rw [prf, if_neg o0, if_neg o1, if_neg o2, if_neg o3, if_neg o4, if_neg o5, if_neg o6, cn_a]) hw
end
section
set_option maxRecDepth 100000

theorem f3_of {f : Int32} (h0 : ¬ f < 0) (h3 : ¬ 3 ≤ f) : ∃ k, k < 3 ∧ f = nI k := ix_of (n := 3) h0 (Int32.not_le.mp h3) (by decide)
theorem cpA_ne (σ : St) (f t : Nat) {k : Nat} (h1 : k ≠ 11) (h2 : k ≠ 12) : ∀ i, cpA σ f t i k = σ k
  | 0 => rfl
  | i + 1 => by
    unfold cpA
    rw [su_ne h2, su_ne h1]
    exact cpA_ne σ f t h1 h2 i
theorem cpB_ne (σ : St) (f t : Nat) {k : Nat} (h1 : k ≠ 13) : ∀ i, cpB σ f t i k = σ k
  | 0 => rfl
  | i + 1 => by
    unfold cpB
    rw [su_ne h1]
    exact cpB_ne σ f t h1 i
theorem cpD_ne (σ : St) (f t : Nat) {k : Nat} (h1 : k ≠ 11) (h2 : k ≠ 12) (h3 : k ≠ 13) : cpD σ f t k = cpC σ f t k := by
  unfold cpD
  rw [cpB_ne _ _ _ h3, cpA_ne _ _ _ h1 h2]
theorem cpD_7 (σ : St) (f t : Nat) : cpD σ f t 7 t = σ 7 f := by
  rw [cpD_ne _ _ _ (by decide) (by decide) (by decide)]
  unfold cpC
  rw [su_ne (by decide), su_ne (by decide), su_ne (by decide), su_eq]
theorem anG_01 (σ : St) (f p : Nat) : anG σ f p = 0 ∨ anG σ f p = 1 := by
  unfold anG
  split
  · split
    · exact Or.inl rfl
    · exact Or.inr rfl
  · exact Or.inl rfl
theorem szw_anS {σ : St} (h : szw σ) (f p : Nat) : szw (anS σ f p) := by
  unfold anS
  split
  · split
    · exact h
    · exact szw_su h (by decide)
  · exact h
theorem szw_anR : ∀ (i : Nat) {σ : St} (m : Int32), szw σ → szw (anR i σ m).1
  | 0, _, _, h => h
  | i + 1, _, _, h => szw_anR i _ (szw_anS h _ _)
theorem szw_anZ {σ : St} (h : szw σ) : ∀ i, szw (anZ σ i)
  | 0 => h
  | i + 1 => szw_su (szw_anZ h i) (by decide)

set_option maxHeartbeats 4000000 in
theorem k0_emit (l : Launch) (σ : St) (f op rg cc : Int32) (hsz : szw σ) : Ci0 l yX0_emit cX0_emit 6 .int 0 0 [.int f, .int op, .int rg, .int cc] σ (fun r u => r = (em0 σ f op rg cc).1 ∧ u = (em0 σ f op rg cc).2) := by
  refine e0_i (by decide) rfl (fun _ => Nat.le_of_ble_eq_true rfl) ?_
  intro pG eN R sT mD aR bL mT cD Q dC dI A oA qA dA hR X hA hret ls hl hw
  have hx := X.1.1
  have hb := X.1.2.1
  have hl : lv_has ls 6 [(0, .ref oA), (1, .int f), (2, .int op), (3, .int rg), (4, .int cc)] := hl
  refine lv_iload_n hx hb dX0_emit_0 rfl (lv_at hl 1 rfl) ?_
  refine lv_if_lt (tgt := 19) hx hb dX0_emit_1 (by decide) (fun c1 => ?_) (fun c1 => ?_)
  · refine lv_iconst (v := (-1)) hx hb dX0_emit_19 (by decide) ?_
    exact hret _ _ _ _ _ _ dX0_emit_20 rfl ⟨by rw [em0, if_pos c1], by rw [em0, if_pos c1]⟩ hw
  · refine lv_iload_n hx hb dX0_emit_4 rfl (lv_at hl 1 rfl) ?_
    refine lv_iconst (v := 3) hx hb dX0_emit_5 (by decide) ?_
    refine lv_icmp_ge (tgt := 19) hx hb dX0_emit_6 (by decide) (fun c6 => ?_) (fun c6 => ?_)
    · refine lv_iconst (v := (-1)) hx hb dX0_emit_19 (by decide) ?_
      exact hret _ _ _ _ _ _ dX0_emit_20 rfl ⟨by rw [em0, if_neg c1, if_pos c6], by rw [em0, if_neg c1, if_pos c6]⟩ hw
    · refine lv_iload_n hx hb dX0_emit_9 rfl (lv_at hl 2 rfl) ?_
      refine lv_if_lt (tgt := 19) hx hb dX0_emit_10 (by decide) (fun c10 => ?_) (fun c10 => ?_)
      · refine lv_iconst (v := (-1)) hx hb dX0_emit_19 (by decide) ?_
        exact hret _ _ _ _ _ _ dX0_emit_20 rfl ⟨by rw [em0, if_neg c1, if_neg c6, if_pos c10], by rw [em0, if_neg c1, if_neg c6, if_pos c10]⟩ hw
      · refine lv_iload_n hx hb dX0_emit_13 rfl (lv_at hl 2 rfl) ?_
        refine lv_bipush (v := 7) hx hb dX0_emit_14 (by decide) ?_
        refine lv_icmp_le (tgt := 21) hx hb dX0_emit_16 (by decide) (fun c16 => ?_) (fun c16 => ?_)
        · refine lv_iconst (v := 0) hx hb dX0_emit_21 (by decide) ?_
          refine lv_istore (lv' := [(5, .int 0), (0, .ref oA), (1, .int f), (2, .int op), (3, .int rg), (4, .int cc)]) hx hb dX0_emit_22 hl (by decide) rfl (fun ls hl => ?_)
          refine lv_iload hx hb dX0_emit_24 (lv_at hl 0 rfl) ?_
          refine lv_iconst (v := 4) hx hb dX0_emit_26 (by decide) ?_
          refine lv_icmp_ge (tgt := 49) hx hb dX0_emit_27 (by decide) (fun c27 => ?_) (fun c27 => ?_)
          · exact absurd c27 (by decide)
          · refine lv_aload_n hx hb dX0_emit_30 rfl (lv_at hl 1 rfl) ?_
            refine r0_get X hw 7 (by decide) q39 rfl rfl dX0_emit_31 ?_
            refine lv_iload hx hb dX0_emit_34 (lv_at hl 0 rfl) ?_
            refine r0_ald X hw 6 (k := 7) rfl 0 rfl (by decide) dX0_emit_36 ?_
            refine lv_if_eq (tgt := 43) hx hb dX0_emit_37 (by decide) (fun c37 => ?_) (fun c37 => ?_)
            · refine lv_iinc (v := 1) (lv' := [(5, .int 1), (0, .ref oA), (1, .int f), (2, .int op), (3, .int rg), (4, .int cc)]) hx hb dX0_emit_43 hl (k := 0) rfl (by decide) (by decide) rfl (fun ls hl => ?_)
              refine lv_goto (tgt := 24) hx hb dX0_emit_46 (by decide) ?_
              refine lv_iload hx hb dX0_emit_24 (lv_at hl 0 rfl) ?_
              refine lv_iconst (v := 4) hx hb dX0_emit_26 (by decide) ?_
              refine lv_icmp_ge (tgt := 49) hx hb dX0_emit_27 (by decide) (fun c27_1 => ?_) (fun c27_1 => ?_)
              · exact absurd c27_1 (by decide)
              · refine lv_aload_n hx hb dX0_emit_30 rfl (lv_at hl 1 rfl) ?_
                refine r0_get X hw 7 (by decide) q39 rfl rfl dX0_emit_31 ?_
                refine lv_iload hx hb dX0_emit_34 (lv_at hl 0 rfl) ?_
                refine r0_ald X hw 6 (k := 7) rfl 1 rfl (by decide) dX0_emit_36 ?_
                refine lv_if_eq (tgt := 43) hx hb dX0_emit_37 (by decide) (fun c37_1 => ?_) (fun c37_1 => ?_)
                · refine lv_iinc (v := 2) (lv' := [(5, .int 2), (0, .ref oA), (1, .int f), (2, .int op), (3, .int rg), (4, .int cc)]) hx hb dX0_emit_43 hl (k := 0) rfl (by decide) (by decide) rfl (fun ls hl => ?_)
                  refine lv_goto (tgt := 24) hx hb dX0_emit_46 (by decide) ?_
                  refine lv_iload hx hb dX0_emit_24 (lv_at hl 0 rfl) ?_
                  refine lv_iconst (v := 4) hx hb dX0_emit_26 (by decide) ?_
                  refine lv_icmp_ge (tgt := 49) hx hb dX0_emit_27 (by decide) (fun c27_2 => ?_) (fun c27_2 => ?_)
                  · exact absurd c27_2 (by decide)
                  · refine lv_aload_n hx hb dX0_emit_30 rfl (lv_at hl 1 rfl) ?_
                    refine r0_get X hw 7 (by decide) q39 rfl rfl dX0_emit_31 ?_
                    refine lv_iload hx hb dX0_emit_34 (lv_at hl 0 rfl) ?_
                    refine r0_ald X hw 6 (k := 7) rfl 2 rfl (by decide) dX0_emit_36 ?_
                    refine lv_if_eq (tgt := 43) hx hb dX0_emit_37 (by decide) (fun c37_2 => ?_) (fun c37_2 => ?_)
                    · refine lv_iinc (v := 3) (lv' := [(5, .int 3), (0, .ref oA), (1, .int f), (2, .int op), (3, .int rg), (4, .int cc)]) hx hb dX0_emit_43 hl (k := 0) rfl (by decide) (by decide) rfl (fun ls hl => ?_)
                      refine lv_goto (tgt := 24) hx hb dX0_emit_46 (by decide) ?_
                      refine lv_iload hx hb dX0_emit_24 (lv_at hl 0 rfl) ?_
                      refine lv_iconst (v := 4) hx hb dX0_emit_26 (by decide) ?_
                      refine lv_icmp_ge (tgt := 49) hx hb dX0_emit_27 (by decide) (fun c27_3 => ?_) (fun c27_3 => ?_)
                      · exact absurd c27_3 (by decide)
                      · refine lv_aload_n hx hb dX0_emit_30 rfl (lv_at hl 1 rfl) ?_
                        refine r0_get X hw 7 (by decide) q39 rfl rfl dX0_emit_31 ?_
                        refine lv_iload hx hb dX0_emit_34 (lv_at hl 0 rfl) ?_
                        refine r0_ald X hw 6 (k := 7) rfl 3 rfl (by decide) dX0_emit_36 ?_
                        refine lv_if_eq (tgt := 43) hx hb dX0_emit_37 (by decide) (fun c37_3 => ?_) (fun c37_3 => ?_)
                        · refine lv_iinc (v := 4) (lv' := [(5, .int 4), (0, .ref oA), (1, .int f), (2, .int op), (3, .int rg), (4, .int cc)]) hx hb dX0_emit_43 hl (k := 0) rfl (by decide) (by decide) rfl (fun ls hl => ?_)
                          refine lv_goto (tgt := 24) hx hb dX0_emit_46 (by decide) ?_
                          refine lv_iload hx hb dX0_emit_24 (lv_at hl 0 rfl) ?_
                          refine lv_iconst (v := 4) hx hb dX0_emit_26 (by decide) ?_
                          refine lv_icmp_ge (tgt := 49) hx hb dX0_emit_27 (by decide) (fun c27_4 => ?_) (fun c27_4 => ?_)
                          · obtain ⟨k, hk, ef⟩ := f3_of c1 c6
                            have ek : cn f = k := by rw [ef]; exact cn_nI (by omega)
                            refine lv_aload_n hx hb dX0_emit_49 rfl (lv_at hl 1 rfl) ?_
                            refine r0_get X hw 0 (by decide) q32 rfl rfl dX0_emit_50 ?_
                            refine lv_iload_n hx hb dX0_emit_53 rfl (lv_at hl 2 rfl) ?_
                            refine r0_ald X hw 0 (k := 0) rfl k ef hk dX0_emit_54 ?_
                            refine lv_bipush (v := 8) hx hb dX0_emit_55 (by decide) ?_
                            refine lv_icmp_lt (tgt := 63) hx hb dX0_emit_57 (by decide) (fun c57 => ?_) (fun c57 => ?_)
                            · obtain ⟨n, hn, en⟩ := hsz k
                              have hn8 : n < 8 := by rw [en] at c57; exact (nI_ltI (by omega) (by decide)).mp c57
                              have ej : cn (σ 0 k) = n := by rw [en]; exact cn_nI (by omega)
                              refine lv_iload_n hx hb dX0_emit_63 rfl (lv_at hl 2 rfl) ?_
                              refine lv_bipush (v := nI 8) hx hb dX0_emit_64 (by decide) ?_
                              refine lv_imul hx hb dX0_emit_66 ?_
                              refine x_top (y := nI (k * 8)) (by rw [ef, pk_mul]) ?_
                              refine lv_aload_n hx hb dX0_emit_67 rfl (lv_at hl 1 rfl) ?_
                              refine r0_get X hw 0 (by decide) q32 rfl rfl dX0_emit_68 ?_
                              refine lv_iload_n hx hb dX0_emit_71 rfl (lv_at hl 2 rfl) ?_
                              refine r0_ald X hw 0 (k := 0) rfl k ef hk dX0_emit_72 ?_
                              refine x_top (y := nI n) en ?_
                              refine lv_iadd hx hb dX0_emit_73 ?_
                              refine x_top (y := nI (k * 8 + n)) (nI_add _ _) ?_
                              refine lv_istore (lv' := [(5, .int (nI (k * 8 + n))), (0, .ref oA), (1, .int f), (2, .int op), (3, .int rg), (4, .int cc)]) hx hb dX0_emit_74 hl (by decide) rfl (fun ls hl => ?_)
                              refine lv_aload_n hx hb dX0_emit_76 rfl (lv_at hl 1 rfl) ?_
                              refine r0_get X hw 1 (by decide) q33 rfl rfl dX0_emit_77 ?_
                              refine lv_iload hx hb dX0_emit_80 (lv_at hl 0 rfl) ?_
                              refine lv_iload_n hx hb dX0_emit_82 rfl (lv_at hl 3 rfl) ?_
                              refine r0_ast X hw 1 (k := 1) rfl (k * 8 + n) rfl (show (k * 8 + n) < _ by first | assumption | (simp only [fl0]; omega)) dX0_emit_83 (fun H locs hw => ?_)
                              refine lv_aload_n hx hb dX0_emit_84 rfl (lv_at hl 1 rfl) ?_
                              refine r0_get X hw 2 (by decide) q34 rfl rfl dX0_emit_85 ?_
                              refine lv_iload hx hb dX0_emit_88 (lv_at hl 0 rfl) ?_
                              refine lv_iload_n hx hb dX0_emit_90 rfl (lv_at hl 4 rfl) ?_
                              refine lv_iconst (v := 3) hx hb dX0_emit_91 (by decide) ?_
                              refine lv_iand hx hb dX0_emit_92 ?_
                              refine r0_ast X hw 2 (k := 2) rfl (k * 8 + n) rfl (show (k * 8 + n) < _ by first | assumption | (simp only [fl0]; omega)) dX0_emit_93 (fun H locs hw => ?_)
                              refine lv_aload_n hx hb dX0_emit_94 rfl (lv_at hl 1 rfl) ?_
                              refine r0_get X hw 3 (by decide) q35 rfl rfl dX0_emit_95 ?_
                              refine lv_iload hx hb dX0_emit_98 (lv_at hl 0 rfl) ?_
                              refine lv_iload_n hx hb dX0_emit_100 rfl (lv_at hl 4 rfl) ?_
                              refine lv_iconst (v := 2) hx hb dX0_emit_101 (by decide) ?_
                              refine lv_ishr hx hb dX0_emit_102 ?_
                              refine lv_iconst (v := 3) hx hb dX0_emit_103 (by decide) ?_
                              refine lv_iand hx hb dX0_emit_104 ?_
                              refine r0_ast X hw 3 (k := 3) rfl (k * 8 + n) rfl (show (k * 8 + n) < _ by first | assumption | (simp only [fl0]; omega)) dX0_emit_105 (fun H locs hw => ?_)
                              refine lv_aload_n hx hb dX0_emit_106 rfl (lv_at hl 1 rfl) ?_
                              refine r0_get X hw 4 (by decide) q36 rfl rfl dX0_emit_107 ?_
                              refine lv_iload hx hb dX0_emit_110 (lv_at hl 0 rfl) ?_
                              refine lv_iload hx hb dX0_emit_112 (lv_at hl 5 rfl) ?_
                              refine r0_ast X hw 4 (k := 4) rfl (k * 8 + n) rfl (show (k * 8 + n) < _ by first | assumption | (simp only [fl0]; omega)) dX0_emit_114 (fun H locs hw => ?_)
                              refine lv_aload_n hx hb dX0_emit_115 rfl (lv_at hl 1 rfl) ?_
                              refine r0_get X hw 0 (by decide) q32 rfl rfl dX0_emit_116 ?_
                              refine lv_iload_n hx hb dX0_emit_119 rfl (lv_at hl 2 rfl) ?_
                              refine lv_dup2_11 hx hb dX0_emit_120 rfl rfl ?_
                              refine r0_ald X hw 0 (k := 0) rfl k ef hk dX0_emit_121 ?_
                              refine x_top (y := σ 0 k) rfl ?_
                              refine lv_iconst (v := 1) hx hb dX0_emit_122 (by decide) ?_
                              refine lv_iadd hx hb dX0_emit_123 ?_
                              refine r0_ast X hw 0 (k := 0) rfl k ef hk dX0_emit_124 (fun H locs hw => ?_)
                              refine lv_aload_n hx hb dX0_emit_125 rfl (lv_at hl 1 rfl) ?_
                              refine lv_iconst (v := 0) hx hb dX0_emit_126 (by decide) ?_
                              refine r0_putz X hw rfl rfl dX0_emit_127 (fun H locs hw => ?_)
                              refine lv_aload_n hx hb dX0_emit_130 rfl (lv_at hl 1 rfl) ?_
                              refine r0_get X hw 0 (by decide) q32 rfl rfl dX0_emit_131 ?_
                              refine lv_iload_n hx hb dX0_emit_134 rfl (lv_at hl 2 rfl) ?_
                              refine r0_ald X hw 0 (k := 0) rfl k ef hk dX0_emit_135 ?_
                              refine x_top (y := σ 0 k + 1) (by rw [su_ne (by decide), su_eq]) ?_
                              refine lv_iconst (v := 1) hx hb dX0_emit_136 (by decide) ?_
                              refine lv_isub hx hb dX0_emit_137 ?_
                              exact hret _ _ _ _ _ _ dX0_emit_138 rfl ⟨by rw [em0, if_neg c1, if_neg c6, if_neg c10, if_pos c16, if_pos ⟨c37, c37_1, c37_2, c37_3⟩, em1, ek, if_pos c57], by rw [em0, if_neg c1, if_neg c6, if_neg c10, if_pos c16, if_pos ⟨c37, c37_1, c37_2, c37_3⟩, em1, ek, if_pos c57, ej]; rfl⟩ hw
                            · refine lv_bipush (v := (-2)) hx hb dX0_emit_60 (by decide) ?_
                              exact hret _ _ _ _ _ _ dX0_emit_62 rfl ⟨by rw [em0, if_neg c1, if_neg c6, if_neg c10, if_pos c16, if_pos ⟨c37, c37_1, c37_2, c37_3⟩, em1, ek, if_neg c57], by rw [em0, if_neg c1, if_neg c6, if_neg c10, if_pos c16, if_pos ⟨c37, c37_1, c37_2, c37_3⟩, em1, ek, if_neg c57]⟩ hw
                          · exact absurd (by decide) c27_4
                        · refine lv_bipush (v := (-3)) hx hb dX0_emit_40 (by decide) ?_
                          exact hret _ _ _ _ _ _ dX0_emit_42 rfl ⟨by rw [em0, if_neg c1, if_neg c6, if_neg c10, if_pos c16, if_neg (fun h => c37_3 h.2.2.2)], by rw [em0, if_neg c1, if_neg c6, if_neg c10, if_pos c16, if_neg (fun h => c37_3 h.2.2.2)]⟩ hw
                    · refine lv_bipush (v := (-3)) hx hb dX0_emit_40 (by decide) ?_
                      exact hret _ _ _ _ _ _ dX0_emit_42 rfl ⟨by rw [em0, if_neg c1, if_neg c6, if_neg c10, if_pos c16, if_neg (fun h => c37_2 h.2.2.1)], by rw [em0, if_neg c1, if_neg c6, if_neg c10, if_pos c16, if_neg (fun h => c37_2 h.2.2.1)]⟩ hw
                · refine lv_bipush (v := (-3)) hx hb dX0_emit_40 (by decide) ?_
                  exact hret _ _ _ _ _ _ dX0_emit_42 rfl ⟨by rw [em0, if_neg c1, if_neg c6, if_neg c10, if_pos c16, if_neg (fun h => c37_1 h.2.1)], by rw [em0, if_neg c1, if_neg c6, if_neg c10, if_pos c16, if_neg (fun h => c37_1 h.2.1)]⟩ hw
            · refine lv_bipush (v := (-3)) hx hb dX0_emit_40 (by decide) ?_
              exact hret _ _ _ _ _ _ dX0_emit_42 rfl ⟨by rw [em0, if_neg c1, if_neg c6, if_neg c10, if_pos c16, if_neg (fun h => c37 h.1)], by rw [em0, if_neg c1, if_neg c6, if_neg c10, if_pos c16, if_neg (fun h => c37 h.1)]⟩ hw
        · refine lv_iconst (v := (-1)) hx hb dX0_emit_19 (by decide) ?_
          exact hret _ _ _ _ _ _ dX0_emit_20 rfl ⟨by rw [em0, if_neg c1, if_neg c6, if_neg c10, if_neg c16], by rw [em0, if_neg c1, if_neg c6, if_neg c10, if_neg c16]⟩ hw

set_option maxHeartbeats 4000000 in
theorem k0_copy (l : Launch) (σ : St) (x y : Int32)  : Ci0 l yX0_copy cX0_copy 4 .int 1 20 [.int x, .int y] σ (fun r u => r = (cp0 σ x y).1 ∧ u = (cp0 σ x y).2) := by
  refine e0_i (by decide) rfl (fun _ => Nat.le_of_ble_eq_true rfl) ?_
  intro pG eN R sT mD aR bL mT cD Q dC dI A oA qA dA hR X hA hret ls hl hw
  have hx := X.1.1
  have hb := X.1.2.1
  have hl : lv_has ls 4 [(0, .ref oA), (1, .int x), (2, .int y)] := hl
  refine lv_iload_n hx hb dX0_copy_0 rfl (lv_at hl 1 rfl) ?_
  refine x_bad X (by rw [hR]; exact ⟨Nat.le_of_ble_eq_true rfl, Nat.le_of_ble_eq_true rfl⟩) hl.1 (Nat.le_of_ble_eq_true rfl) dX0_copy_1 ⟨Nat.zero_le _, Nat.zero_le _⟩ ?_
  refine lv_if_ne (tgt := 14) hx hb dX0_copy_4 (by decide) (fun c4 => ?_) (fun c4 => ?_)
  · refine lv_iconst (v := (-1)) hx hb dX0_copy_14 (by decide) ?_
    exact hret _ _ _ _ _ _ dX0_copy_15 rfl ⟨by rw [cp0, if_neg c4], by rw [cp0, if_neg c4]⟩ hw
  · obtain ⟨k, hk, rfl⟩ := bd_ok c4
    refine lv_iload_n hx hb dX0_copy_7 rfl (lv_at hl 2 rfl) ?_
    refine x_bad X (by rw [hR]; exact ⟨Nat.le_of_ble_eq_true rfl, Nat.le_of_ble_eq_true rfl⟩) hl.1 (Nat.le_of_ble_eq_true rfl) dX0_copy_8 ⟨Nat.zero_le _, Nat.zero_le _⟩ ?_
    refine lv_if_eq (tgt := 16) hx hb dX0_copy_11 (by decide) (fun c11 => ?_) (fun c11 => ?_)
    · obtain ⟨j, hj, rfl⟩ := bd_ok c11
      refine lv_aload_n hx hb dX0_copy_16 rfl (lv_at hl 0 rfl) ?_
      refine r0_get X hw 7 (by decide) q39 rfl rfl dX0_copy_17 ?_
      refine lv_iload_n hx hb dX0_copy_20 rfl (lv_at hl 2 rfl) ?_
      refine lv_aload_n hx hb dX0_copy_21 rfl (lv_at hl 0 rfl) ?_
      refine r0_get X hw 7 (by decide) q39 rfl rfl dX0_copy_22 ?_
      refine lv_iload_n hx hb dX0_copy_25 rfl (lv_at hl 1 rfl) ?_
      refine r0_ald X hw 6 (k := 7) rfl k rfl (show k < _ by first | assumption | (simp only [fl0]; omega)) dX0_copy_26 ?_
      refine x_top (y := σ 7 k) rfl ?_
      refine r0_ast X hw 6 (k := 7) rfl j rfl (show j < _ by first | assumption | (simp only [fl0]; omega)) dX0_copy_27 (fun H locs hw => ?_)
      refine lv_aload_n hx hb dX0_copy_28 rfl (lv_at hl 0 rfl) ?_
      refine r0_get X hw 8 (by decide) q40 rfl rfl dX0_copy_29 ?_
      refine lv_iload_n hx hb dX0_copy_32 rfl (lv_at hl 2 rfl) ?_
      refine lv_aload_n hx hb dX0_copy_33 rfl (lv_at hl 0 rfl) ?_
      refine r0_get X hw 8 (by decide) q40 rfl rfl dX0_copy_34 ?_
      refine lv_iload_n hx hb dX0_copy_37 rfl (lv_at hl 1 rfl) ?_
      refine r0_ald X hw 7 (k := 8) rfl k rfl (show k < _ by first | assumption | (simp only [fl0]; omega)) dX0_copy_38 ?_
      refine x_top (y := σ 8 k) rfl ?_
      refine r0_ast X hw 7 (k := 8) rfl j rfl (show j < _ by first | assumption | (simp only [fl0]; omega)) dX0_copy_39 (fun H locs hw => ?_)
      refine lv_aload_n hx hb dX0_copy_40 rfl (lv_at hl 0 rfl) ?_
      refine r0_get X hw 9 (by decide) q41 rfl rfl dX0_copy_41 ?_
      refine lv_iload_n hx hb dX0_copy_44 rfl (lv_at hl 2 rfl) ?_
      refine lv_aload_n hx hb dX0_copy_45 rfl (lv_at hl 0 rfl) ?_
      refine r0_get X hw 9 (by decide) q41 rfl rfl dX0_copy_46 ?_
      refine lv_iload_n hx hb dX0_copy_49 rfl (lv_at hl 1 rfl) ?_
      refine r0_ald X hw 8 (k := 9) rfl k rfl (show k < _ by first | assumption | (simp only [fl0]; omega)) dX0_copy_50 ?_
      refine x_top (y := σ 9 k) rfl ?_
      refine r0_ast X hw 8 (k := 9) rfl j rfl (show j < _ by first | assumption | (simp only [fl0]; omega)) dX0_copy_51 (fun H locs hw => ?_)
      refine lv_aload_n hx hb dX0_copy_52 rfl (lv_at hl 0 rfl) ?_
      refine r0_get X hw 10 (by decide) q42 rfl rfl dX0_copy_53 ?_
      refine lv_iload_n hx hb dX0_copy_56 rfl (lv_at hl 2 rfl) ?_
      refine lv_aload_n hx hb dX0_copy_57 rfl (lv_at hl 0 rfl) ?_
      refine r0_get X hw 10 (by decide) q42 rfl rfl dX0_copy_58 ?_
      refine lv_iload_n hx hb dX0_copy_61 rfl (lv_at hl 1 rfl) ?_
      refine r0_ald X hw 9 (k := 10) rfl k rfl (show k < _ by first | assumption | (simp only [fl0]; omega)) dX0_copy_62 ?_
      refine x_top (y := σ 10 k) rfl ?_
      refine r0_ast X hw 9 (k := 10) rfl j rfl (show j < _ by first | assumption | (simp only [fl0]; omega)) dX0_copy_63 (fun H locs hw => ?_)
      refine lv_iconst (v := 0) hx hb dX0_copy_64 (by decide) ?_
      refine lv_istore_n (lv' := [(3, .int 0), (0, .ref oA), (1, .int (nI k)), (2, .int (nI j))]) hx hb dX0_copy_65 rfl hl (by decide) rfl (fun ls hl => ?_)
      have hw : wd0 dC dI A sT.heap oA qA dA (cpC σ k j) H locs := hw
      have loop1 : ∀ (n : Nat) (r : Nat) (H : Heap) (locs : List Loc) (ls : Array Slot), r + n = 4 → lv_has ls 4 [(0, .ref oA), (1, .int (nI k)), (2, .int (nI j)), (3, .int (nI r))] → wd0 dC dI A sT.heap oA qA dA (cpA (cpC σ k j) k j r) H locs → W pG l eN R sT mD aR bL mT cD H locs 0 0 Q (F0 mD 66 ls []) := by
        intro n
        induction n with
        | zero =>
          intro r H locs ls hk hl hw
          obtain rfl : r = 4 := by omega
          refine lv_iload_n hx hb dX0_copy_66 rfl (lv_at hl 3 rfl) ?_
          refine lv_iconst (v := nI 4) hx hb dX0_copy_67 (by decide) ?_
          refine lv_icmp_ge (tgt := 117) hx hb dX0_copy_68 (by decide) (fun c68 => ?_) (fun c68 => ?_)
          · refine lv_iconst (v := 0) hx hb dX0_copy_117 (by decide) ?_
            refine lv_istore_n (lv' := [(3, .int 0), (0, .ref oA), (1, .int (nI k)), (2, .int (nI j))]) hx hb dX0_copy_118 rfl hl (by decide) rfl (fun ls hl => ?_)
            have loop2 : ∀ (n : Nat) (r : Nat) (H : Heap) (locs : List Loc) (ls : Array Slot), r + n = 16 → lv_has ls 4 [(0, .ref oA), (1, .int (nI k)), (2, .int (nI j)), (3, .int (nI r))] → wd0 dC dI A sT.heap oA qA dA (cpB (cpA (cpC σ k j) k j 4) k j r) H locs → W pG l eN R sT mD aR bL mT cD H locs 0 0 Q (F0 mD 119 ls []) := by
              intro n
              induction n with
              | zero =>
                intro r H locs ls hk hl hw
                obtain rfl : r = 16 := by omega
                refine lv_iload_n hx hb dX0_copy_119 rfl (lv_at hl 3 rfl) ?_
                refine lv_bipush (v := nI 16) hx hb dX0_copy_120 (by decide) ?_
                refine lv_icmp_ge (tgt := 153) hx hb dX0_copy_122 (by decide) (fun c122 => ?_) (fun c122 => ?_)
                · have hw : wd0 dC dI A sT.heap oA qA dA (cpD σ k j) H locs := hw
                  refine lv_aload_n hx hb dX0_copy_153 rfl (lv_at hl 0 rfl) ?_
                  refine r0_get X hw 7 (by decide) q39 rfl rfl dX0_copy_154 ?_
                  refine lv_iload_n hx hb dX0_copy_157 rfl (lv_at hl 2 rfl) ?_
                  refine r0_ald X hw 6 (k := 7) rfl j rfl (show j < _ by first | assumption | (simp only [fl0]; omega)) dX0_copy_158 ?_
                  refine x_top (y := σ 7 k) (cpD_7 _ _ _) ?_
                  exact hret _ _ _ _ _ _ dX0_copy_159 rfl ⟨by rw [cp0, if_pos c4, if_pos c11, cn_nI (by omega)], by rw [cp0, if_pos c4, if_pos c11, cn_nI (by omega), cn_nI (by omega)]⟩ hw
                · exact absurd (nI_le (by omega) (by decide)) c122
              | succ n ih2 =>
                intro r H locs ls hk hl hw
                refine lv_iload_n hx hb dX0_copy_119 rfl (lv_at hl 3 rfl) ?_
                refine lv_bipush (v := nI 16) hx hb dX0_copy_120 (by decide) ?_
                refine lv_icmp_ge (tgt := 153) hx hb dX0_copy_122 (by decide) (fun c122 => ?_) (fun c122 => ?_)
                · exact absurd c122 (nI_ge (by omega) (by decide))
                · refine lv_aload_n hx hb dX0_copy_125 rfl (lv_at hl 0 rfl) ?_
                  refine r0_get X hw 13 (by decide) q45 rfl rfl dX0_copy_126 ?_
                  refine lv_iload_n hx hb dX0_copy_129 rfl (lv_at hl 2 rfl) ?_
                  refine lv_bipush (v := nI 16) hx hb dX0_copy_130 (by decide) ?_
                  refine lv_imul hx hb dX0_copy_132 ?_
                  refine x_top (y := nI (j * 16)) (pk_mul _ _) ?_
                  refine lv_iload_n hx hb dX0_copy_133 rfl (lv_at hl 3 rfl) ?_
                  refine lv_iadd hx hb dX0_copy_134 ?_
                  refine x_top (y := nI (j * 16 + r)) (nI_add _ _) ?_
                  refine lv_aload_n hx hb dX0_copy_135 rfl (lv_at hl 0 rfl) ?_
                  refine r0_get X hw 13 (by decide) q45 rfl rfl dX0_copy_136 ?_
                  refine lv_iload_n hx hb dX0_copy_139 rfl (lv_at hl 1 rfl) ?_
                  refine lv_bipush (v := nI 16) hx hb dX0_copy_140 (by decide) ?_
                  refine lv_imul hx hb dX0_copy_142 ?_
                  refine x_top (y := nI (k * 16)) (pk_mul _ _) ?_
                  refine lv_iload_n hx hb dX0_copy_143 rfl (lv_at hl 3 rfl) ?_
                  refine lv_iadd hx hb dX0_copy_144 ?_
                  refine x_top (y := nI (k * 16 + r)) (nI_add _ _) ?_
                  refine r0_ald X hw 12 (k := 13) rfl (k * 16 + r) rfl (show (k * 16 + r) < _ by first | assumption | (simp only [fl0]; omega)) dX0_copy_145 ?_
                  refine r0_ast X hw 12 (k := 13) rfl (j * 16 + r) rfl (show (j * 16 + r) < _ by first | assumption | (simp only [fl0]; omega)) dX0_copy_146 (fun H locs hw => ?_)
                  refine lv_iinc (v := nI (r + 1)) (lv' := [(3, .int (nI (r + 1))), (0, .ref oA), (1, .int (nI k)), (2, .int (nI j))]) hx hb dX0_copy_147 hl (k := 3) rfl (nI_1 _) (by decide) rfl (fun ls hl => ?_)
                  refine lv_goto (tgt := 119) hx hb dX0_copy_150 (by decide) ?_
                  exact ih2 (r + 1) _ _ _ (by omega) (lv_sub hl [1, 2, 3, 0] rfl) hw
            exact loop2 16 0 _ _ _ rfl (lv_sub hl [1, 2, 3, 0] rfl) hw
          · exact absurd (nI_le (by omega) (by decide)) c68
        | succ n ih =>
          intro r H locs ls hk hl hw
          refine lv_iload_n hx hb dX0_copy_66 rfl (lv_at hl 3 rfl) ?_
          refine lv_iconst (v := nI 4) hx hb dX0_copy_67 (by decide) ?_
          refine lv_icmp_ge (tgt := 117) hx hb dX0_copy_68 (by decide) (fun c68 => ?_) (fun c68 => ?_)
          · exact absurd c68 (nI_ge (by omega) (by decide))
          · refine lv_aload_n hx hb dX0_copy_71 rfl (lv_at hl 0 rfl) ?_
            refine r0_get X hw 11 (by decide) q43 rfl rfl dX0_copy_72 ?_
            refine lv_iload_n hx hb dX0_copy_75 rfl (lv_at hl 2 rfl) ?_
            refine lv_iconst (v := nI 4) hx hb dX0_copy_76 (by decide) ?_
            refine lv_imul hx hb dX0_copy_77 ?_
            refine x_top (y := nI (j * 4)) (pk_mul _ _) ?_
            refine lv_iload_n hx hb dX0_copy_78 rfl (lv_at hl 3 rfl) ?_
            refine lv_iadd hx hb dX0_copy_79 ?_
            refine x_top (y := nI (j * 4 + r)) (nI_add _ _) ?_
            refine lv_aload_n hx hb dX0_copy_80 rfl (lv_at hl 0 rfl) ?_
            refine r0_get X hw 11 (by decide) q43 rfl rfl dX0_copy_81 ?_
            refine lv_iload_n hx hb dX0_copy_84 rfl (lv_at hl 1 rfl) ?_
            refine lv_iconst (v := nI 4) hx hb dX0_copy_85 (by decide) ?_
            refine lv_imul hx hb dX0_copy_86 ?_
            refine x_top (y := nI (k * 4)) (pk_mul _ _) ?_
            refine lv_iload_n hx hb dX0_copy_87 rfl (lv_at hl 3 rfl) ?_
            refine lv_iadd hx hb dX0_copy_88 ?_
            refine x_top (y := nI (k * 4 + r)) (nI_add _ _) ?_
            refine r0_ald X hw 10 (k := 11) rfl (k * 4 + r) rfl (show (k * 4 + r) < _ by first | assumption | (simp only [fl0]; omega)) dX0_copy_89 ?_
            refine r0_ast X hw 10 (k := 11) rfl (j * 4 + r) rfl (show (j * 4 + r) < _ by first | assumption | (simp only [fl0]; omega)) dX0_copy_90 (fun H locs hw => ?_)
            refine lv_aload_n hx hb dX0_copy_91 rfl (lv_at hl 0 rfl) ?_
            refine r0_get X hw 12 (by decide) q44 rfl rfl dX0_copy_92 ?_
            refine lv_iload_n hx hb dX0_copy_95 rfl (lv_at hl 2 rfl) ?_
            refine lv_iconst (v := nI 4) hx hb dX0_copy_96 (by decide) ?_
            refine lv_imul hx hb dX0_copy_97 ?_
            refine x_top (y := nI (j * 4)) (pk_mul _ _) ?_
            refine lv_iload_n hx hb dX0_copy_98 rfl (lv_at hl 3 rfl) ?_
            refine lv_iadd hx hb dX0_copy_99 ?_
            refine x_top (y := nI (j * 4 + r)) (nI_add _ _) ?_
            refine lv_aload_n hx hb dX0_copy_100 rfl (lv_at hl 0 rfl) ?_
            refine r0_get X hw 12 (by decide) q44 rfl rfl dX0_copy_101 ?_
            refine lv_iload_n hx hb dX0_copy_104 rfl (lv_at hl 1 rfl) ?_
            refine lv_iconst (v := nI 4) hx hb dX0_copy_105 (by decide) ?_
            refine lv_imul hx hb dX0_copy_106 ?_
            refine x_top (y := nI (k * 4)) (pk_mul _ _) ?_
            refine lv_iload_n hx hb dX0_copy_107 rfl (lv_at hl 3 rfl) ?_
            refine lv_iadd hx hb dX0_copy_108 ?_
            refine x_top (y := nI (k * 4 + r)) (nI_add _ _) ?_
            refine r0_ald X hw 11 (k := 12) rfl (k * 4 + r) rfl (show (k * 4 + r) < _ by first | assumption | (simp only [fl0]; omega)) dX0_copy_109 ?_
            refine x_top (y := cpA (cpC σ k j) k j r 12 (k * 4 + r)) rfl ?_
            refine r0_ast X hw 11 (k := 12) rfl (j * 4 + r) rfl (show (j * 4 + r) < _ by first | assumption | (simp only [fl0]; omega)) dX0_copy_110 (fun H locs hw => ?_)
            refine lv_iinc (v := nI (r + 1)) (lv' := [(3, .int (nI (r + 1))), (0, .ref oA), (1, .int (nI k)), (2, .int (nI j))]) hx hb dX0_copy_111 hl (k := 3) rfl (nI_1 _) (by decide) rfl (fun ls hl => ?_)
            refine lv_goto (tgt := 66) hx hb dX0_copy_114 (by decide) ?_
            exact ih (r + 1) _ _ _ (by omega) (lv_sub hl [1, 2, 3, 0] rfl) hw
      exact loop1 4 0 _ _ _ rfl (lv_sub hl [1, 2, 3, 0] rfl) hw
    · refine lv_iconst (v := (-1)) hx hb dX0_copy_14 (by decide) ?_
      exact hret _ _ _ _ _ _ dX0_copy_15 rfl ⟨by rw [cp0, if_pos c4, if_neg c11], by rw [cp0, if_pos c4, if_neg c11]⟩ hw

set_option maxHeartbeats 4000000 in
theorem k0_analyse (l : Launch) (σ : St) (hsz : szw σ) : Cv0 l yX0_analyse cX0_analyse 5 3 71 [] σ (fun u => u = anz σ) := by
  refine e0_v (by decide) rfl (fun _ => Nat.le_of_ble_eq_true rfl) ?_
  intro pG eN R sT mD aR bL mT cD Q dC dI A oA qA dA hR X hA hret ls hl hw
  have hx := X.1.1
  have hb := X.1.2.1
  have hl : lv_has ls 5 [(0, .ref oA)] := hl
  refine lv_aload_n hx hb dX0_analyse_0 rfl (lv_at hl 0 rfl) ?_
  refine r0_get X hw 5 (by decide) q37 rfl rfl dX0_analyse_1 ?_
  refine lv_if_eq (tgt := 8) hx hb dX0_analyse_4 (by decide) (fun c4 => ?_) (fun c4 => ?_)
  · refine lv_aload_n hx hb dX0_analyse_8 rfl (lv_at hl 0 rfl) ?_
    refine lv_iconst (v := 1) hx hb dX0_analyse_9 (by decide) ?_
    refine r0_putz X hw rfl rfl dX0_analyse_10 (fun H locs hw => ?_)
    refine lv_iconst (v := 0) hx hb dX0_analyse_13 (by decide) ?_
    refine lv_istore_n (lv' := [(1, .int 0), (0, .ref oA)]) hx hb dX0_analyse_14 rfl hl (by decide) rfl (fun ls hl => ?_)
    have loop1 : ∀ (k : Nat) (r : Nat) (H : Heap) (locs : List Loc) (ls : Array Slot), r + k = 27 → lv_has ls 5 [(0, .ref oA), (1, .int (nI r))] → wd0 dC dI A sT.heap oA qA dA (anZ (su σ 5 0 1) r) H locs → W pG l eN R sT mD aR bL mT cD H locs 0 0 Q (F0 mD 15 ls []) := by
      intro k
      induction k with
      | zero =>
        intro r H locs ls hk hl hw
        obtain rfl : r = 27 := by omega
        refine lv_iload_n hx hb dX0_analyse_15 rfl (lv_at hl 1 rfl) ?_
        refine lv_bipush (v := nI 27) hx hb dX0_analyse_16 (by decide) ?_
        refine lv_icmp_ge (tgt := 34) hx hb dX0_analyse_18 (by decide) (fun c18 => ?_) (fun c18 => ?_)
        · refine lv_iconst (v := 1) hx hb dX0_analyse_34 (by decide) ?_
          refine lv_istore_n (lv' := [(1, .int 1), (0, .ref oA)]) hx hb dX0_analyse_35 rfl hl (by decide) rfl (fun ls hl => ?_)
          refine lv_iconst (v := 0) hx hb dX0_analyse_36 (by decide) ?_
          refine lv_istore_n (lv' := [(2, .int 0), (1, .int 1), (0, .ref oA)]) hx hb dX0_analyse_37 rfl hl (by decide) rfl (fun ls hl => ?_)
          have hz2 : szw (anZ (su σ 5 0 1) 27) := szw_anZ (szw_su hsz (by decide)) 27
          have loop2 : ∀ (k n : Nat) (u : St) (m : Int32) (H : Heap) (locs : List Loc) (ls : Array Slot), n + k = 97 → szw u → (if m = 0 then u else anL k u) = anL 97 (anZ (su σ 5 0 1) 27) → lv_has ls 5 [(0, .ref oA), (1, .int m), (2, .int (nI n))] → wd0 dC dI A sT.heap oA qA dA u H locs → W pG l eN R sT mD aR bL mT cD H locs 0 0 Q (F0 mD 38 ls []) := by
            intro k
            induction k with
            | zero =>
              intro n u m H locs ls hk hz hfin hl hw
              refine lv_iload_n hx hb dX0_analyse_38 rfl (lv_at hl 2 rfl) ?_
              refine lv_bipush (v := nI 96) hx hb dX0_analyse_39 (by decide) ?_
              refine lv_icmp_gt (tgt := 98) hx hb dX0_analyse_41 (by decide) (fun c41 => ?_) (fun c41 => ?_)
              · exact hret _ _ _ _ _ dX0_analyse_98 (by rw [anz, if_pos c4, ← hfin, anL]; split <;> rfl) hw
              · exact absurd (nI_lt (a := 96) (by omega) (by omega)) c41
            | succ k ih2 =>
              intro n u m H locs ls hk hz hfin hl hw
              refine lv_iload_n hx hb dX0_analyse_38 rfl (lv_at hl 2 rfl) ?_
              refine lv_bipush (v := nI 96) hx hb dX0_analyse_39 (by decide) ?_
              refine lv_icmp_gt (tgt := 98) hx hb dX0_analyse_41 (by decide) (fun c41 => ?_) (fun c41 => ?_)
              · exact absurd c41 (nI_nlt (b := n) (by omega) (by omega))
              · refine lv_iload_n hx hb dX0_analyse_44 rfl (lv_at hl 1 rfl) ?_
                refine lv_if_eq (tgt := 98) hx hb dX0_analyse_45 (by decide) (fun c45 => ?_) (fun c45 => ?_)
                · exact hret _ _ _ _ _ dX0_analyse_98 (by rw [anz, if_pos c4, ← hfin, if_pos c45]) hw
                · refine lv_iconst (v := 0) hx hb dX0_analyse_48 (by decide) ?_
                  refine lv_istore_n (lv' := [(1, .int 0), (0, .ref oA), (2, .int (nI n))]) hx hb dX0_analyse_49 rfl hl (by decide) rfl (fun ls hl => ?_)
                  refine lv_bipush (v := 23) hx hb dX0_analyse_50 (by decide) ?_
                  refine lv_istore_n (lv' := [(3, .int 23), (1, .int 0), (0, .ref oA), (2, .int (nI n))]) hx hb dX0_analyse_52 rfl hl (by decide) rfl (fun ls hl => ?_)
                  have loop3 : ∀ (i : Nat) (v : St) (t y : Int32) (H : Heap) (locs : List Loc) (ls : Array Slot), i ≤ 24 → y = nI i - 1 → szw v → anR i v t = anR 24 u 0 → lv_has ls 5 [(0, .ref oA), (1, .int t), (2, .int (nI n)), (3, .int y)] → wd0 dC dI A sT.heap oA qA dA v H locs → W pG l eN R sT mD aR bL mT cD H locs 0 0 Q (F0 mD 53 ls []) := by
                    intro i
                    induction i with
                    | zero =>
                      intro v t y H locs ls hi ey hv hR3 hl hw
                      refine lv_iload_n hx hb dX0_analyse_53 rfl (lv_at hl 3 rfl) ?_
                      refine lv_if_lt (tgt := 92) hx hb dX0_analyse_54 (by decide) (fun c54 => ?_) (fun c54 => ?_)
                      · refine lv_iinc (v := nI (n + 1)) (lv' := [(2, .int (nI (n + 1))), (0, .ref oA), (1, .int t), (3, .int y)]) hx hb dX0_analyse_92 hl (k := 2) rfl (nI_1 _) (by decide) rfl (fun ls hl => ?_)
                        refine lv_goto (tgt := 38) hx hb dX0_analyse_95 (by decide) ?_
                        have e3 : anR 24 u 0 = (v, t) := hR3.symm
                        exact ih2 (n + 1) v t _ _ _ (by omega) hv (by rw [← hfin, if_neg c45, anL, e3]) (lv_sub hl [1, 2, 0] rfl) hw
                      · exact absurd (by rw [ey]; decide) c54
                    | succ i ih3 =>
                      intro v t y H locs ls hi ey hv hR3 hl hw
                      have ey : y = nI i := by rw [ey]; exact nI_pred i
                      refine lv_iload_n hx hb dX0_analyse_53 rfl (lv_at hl 3 rfl) ?_
                      refine lv_if_lt (tgt := 92) hx hb dX0_analyse_54 (by decide) (fun c54 => ?_) (fun c54 => ?_)
                      · exact absurd c54 (by rw [ey]; exact nI_pos (by omega))
                      · refine lv_aload_n hx hb dX0_analyse_57 rfl (lv_at hl 0 rfl) ?_
                        refine lv_iload_n hx hb dX0_analyse_58 rfl (lv_at hl 3 rfl) ?_
                        refine lv_bipush (v := nI 8) hx hb dX0_analyse_59 (by decide) ?_
                        refine lv_idiv hx hb dX0_analyse_61 (by decide) ?_
                        refine x_top (y := nI (i / 8)) (by rw [ey]; exact pk_div (by omega) (by decide) (by decide)) ?_
                        refine lv_iload_n hx hb dX0_analyse_62 rfl (lv_at hl 3 rfl) ?_
                        refine lv_bipush (v := nI 8) hx hb dX0_analyse_63 (by decide) ?_
                        refine lv_irem hx hb dX0_analyse_65 (by decide) ?_
                        refine x_top (y := nI (i % 8)) (by rw [ey]; exact pk_rem (by omega) (by decide) (by decide)) ?_
                        refine r0_calli (rest := []) 2 X hA hw (k0_analyseAt l v (i / 8) (i % 8) (by omega) (by omega) hv) (lw_V q108 q110 qs2 q22 q111) (by decide +kernel) rfl (by rw [hR]; exact ⟨Nat.le_of_ble_eq_true rfl, Nat.le_of_ble_eq_true rfl⟩) hl.1 rfl (Nat.le_of_ble_eq_true rfl) dX0_analyse_66 ⟨Nat.zero_le _, Nat.zero_le _⟩ (fun r u H locs hu hw _ _ => ?_)
                        obtain ⟨er, hu⟩ := hu
                        rw [hu] at hw
                        rw [er]
                        refine lv_istore (lv' := [(4, .int (anG v (i / 8) (i % 8))), (0, .ref oA), (1, .int t), (2, .int (nI n)), (3, .int y)]) hx hb dX0_analyse_69 hl (by decide) rfl (fun ls hl => ?_)
                        refine lv_iload_n hx hb dX0_analyse_71 rfl (lv_at hl 2 rfl) ?_
                        refine lv_if_ne (tgt := 80) hx hb dX0_analyse_72 (by decide) (fun c72 => ?_) (fun c72 => ?_)
                        · refine lv_iconst (v := 1) hx hb dX0_analyse_80 (by decide) ?_
                          refine lv_goto (tgt := 85) hx hb dX0_analyse_81 (by decide) ?_
                          refine lv_istore_n (lv' := [(1, .int 1), (4, .int (anG v (i / 8) (i % 8))), (0, .ref oA), (2, .int (nI n)), (3, .int y)]) hx hb dX0_analyse_85 rfl hl (by decide) rfl (fun ls hl => ?_)
                          refine lv_iinc (v := nI i - 1) (lv' := [(3, .int (nI i - 1)), (1, .int 1), (4, .int (anG v (i / 8) (i % 8))), (0, .ref oA), (2, .int (nI n))]) hx hb dX0_analyse_86 hl (k := 4) rfl (by rw [ey, Int32.sub_eq_add_neg]; rfl) (by decide) rfl (fun ls hl => ?_)
                          refine lv_goto (tgt := 53) hx hb dX0_analyse_89 (by decide) ?_
                          exact ih3 _ _ _ _ _ _ (by omega) rfl (szw_anS hv _ _) (by rw [← hR3, anR, if_neg c72]) (lv_sub hl [3, 1, 4, 0] rfl) hw
                        · refine lv_iload hx hb dX0_analyse_75 (lv_at hl 0 rfl) ?_
                          refine lv_if_eq (tgt := 84) hx hb dX0_analyse_77 (by decide) (fun c77 => ?_) (fun c77 => ?_)
                          · refine lv_iconst (v := 0) hx hb dX0_analyse_84 (by decide) ?_
                            refine lv_istore_n (lv' := [(1, .int 0), (4, .int (anG v (i / 8) (i % 8))), (0, .ref oA), (2, .int (nI n)), (3, .int y)]) hx hb dX0_analyse_85 rfl hl (by decide) rfl (fun ls hl => ?_)
                            refine lv_iinc (v := nI i - 1) (lv' := [(3, .int (nI i - 1)), (1, .int 0), (4, .int (anG v (i / 8) (i % 8))), (0, .ref oA), (2, .int (nI n))]) hx hb dX0_analyse_86 hl (k := 4) rfl (by rw [ey, Int32.sub_eq_add_neg]; rfl) (by decide) rfl (fun ls hl => ?_)
                            refine lv_goto (tgt := 53) hx hb dX0_analyse_89 (by decide) ?_
                            exact ih3 _ _ _ _ _ _ (by omega) rfl (szw_anS hv _ _) (by rw [← hR3, anR, if_pos c72, c77]) (lv_sub hl [3, 1, 4, 0] rfl) hw
                          · refine lv_iconst (v := 1) hx hb dX0_analyse_80 (by decide) ?_
                            refine lv_goto (tgt := 85) hx hb dX0_analyse_81 (by decide) ?_
                            refine lv_istore_n (lv' := [(1, .int 1), (4, .int (anG v (i / 8) (i % 8))), (0, .ref oA), (2, .int (nI n)), (3, .int y)]) hx hb dX0_analyse_85 rfl hl (by decide) rfl (fun ls hl => ?_)
                            refine lv_iinc (v := nI i - 1) (lv' := [(3, .int (nI i - 1)), (1, .int 1), (4, .int (anG v (i / 8) (i % 8))), (0, .ref oA), (2, .int (nI n))]) hx hb dX0_analyse_86 hl (k := 4) rfl (by rw [ey, Int32.sub_eq_add_neg]; rfl) (by decide) rfl (fun ls hl => ?_)
                            refine lv_goto (tgt := 53) hx hb dX0_analyse_89 (by decide) ?_
                            exact ih3 _ _ _ _ _ _ (by omega) rfl (szw_anS hv _ _) (by rw [← hR3, anR, if_pos c72, (anG_01 v (i / 8) (i % 8)).resolve_left c77]) (lv_sub hl [3, 1, 4, 0] rfl) hw
                  exact loop3 24 u 0 _ _ _ _ (by omega) (by decide) hz rfl (lv_sub hl [2, 1, 3, 0] rfl) hw
          exact loop2 97 0 _ _ _ _ _ rfl hz2 (if_neg (by decide)) (lv_sub hl [2, 1, 0] rfl) hw
        · exact absurd (nI_le (by omega) (by decide)) c18
      | succ k ih =>
        intro r H locs ls hk hl hw
        refine lv_iload_n hx hb dX0_analyse_15 rfl (lv_at hl 1 rfl) ?_
        refine lv_bipush (v := nI 27) hx hb dX0_analyse_16 (by decide) ?_
        refine lv_icmp_ge (tgt := 34) hx hb dX0_analyse_18 (by decide) (fun c18 => ?_) (fun c18 => ?_)
        · exact absurd c18 (nI_ge (by omega) (by decide))
        · refine lv_aload_n hx hb dX0_analyse_21 rfl (lv_at hl 0 rfl) ?_
          refine r0_get X hw 6 (by decide) q38 rfl rfl dX0_analyse_22 ?_
          refine lv_iload_n hx hb dX0_analyse_25 rfl (lv_at hl 1 rfl) ?_
          refine lv_iconst (v := 0) hx hb dX0_analyse_26 (by decide) ?_
          refine r0_ast X hw 5 (k := 6) rfl r rfl (show r < _ by first | assumption | (simp only [fl0]; omega)) dX0_analyse_27 (fun H locs hw => ?_)
          refine lv_iinc (v := nI (r + 1)) (lv' := [(1, .int (nI (r + 1))), (0, .ref oA)]) hx hb dX0_analyse_28 hl (k := 1) rfl (nI_1 _) (by decide) rfl (fun ls hl => ?_)
          refine lv_goto (tgt := 15) hx hb dX0_analyse_31 (by decide) ?_
          exact ih (r + 1) _ _ _ (by omega) (lv_sub hl [1, 0] rfl) hw
    exact loop1 27 0 _ _ _ rfl (lv_sub hl [1, 0] rfl) hw
  · exact hret _ _ _ _ _ dX0_analyse_7 (by rw [anz, if_neg c4]) hw
end
section
set_option maxRecDepth 100000

theorem f2_of {f : Int32} (h0 : ¬ f < 0) (h3 : ¬ 2 < f) : ∃ k, k < 3 ∧ f = nI k := by
  obtain ⟨j, hj, e⟩ := nI_of2 (M := 2) (n := 2) (by decide) h0 (Int32.not_lt.mp h3)
  exact ⟨j, by omega, e⟩
theorem c1A_ne (σ : St) (f t : Nat) {k : Nat} (h1 : k ≠ 8) (h2 : k ≠ 9) (h3 : k ≠ 10) : ∀ i, c1A σ f t i k = σ k
  | 0 => rfl
  | i + 1 => by
    unfold c1A
    rw [su_ne h3, su_ne h2, su_ne h1]
    exact c1A_ne σ f t h1 h2 h3 i
theorem c1B_ne (σ : St) (f t : Nat) {k : Nat} (h1 : k ≠ 11) : ∀ i, c1B σ f t i k = σ k
  | 0 => rfl
  | i + 1 => by
    unfold c1B
    rw [su_ne h1]
    exact c1B_ne σ f t h1 i
theorem c1D_ne (σ : St) (f t : Nat) {k : Nat} (h1 : k ≠ 8) (h2 : k ≠ 9) (h3 : k ≠ 10) (h4 : k ≠ 11) : c1D σ f t k = c1C σ f t k := by
  unfold c1D
  rw [c1B_ne _ _ _ h4, c1A_ne _ _ _ h1 h2 h3]
theorem c1D_4 (σ : St) (f t : Nat) : c1D σ f t 4 t = σ 4 f := by
  rw [c1D_ne _ _ _ (by decide) (by decide) (by decide) (by decide)]
  unfold c1C
  rw [su_ne (by decide), su_ne (by decide), su_ne (by decide), su_eq]
theorem and3 (x : Int32) : ∃ a, a < 4 ∧ x &&& 3 = nI a := pk_andE x (m := 3) 2 (by decide)
/-- the register that a frame below will be given is 0 .. 3 -/
def gtw (τ : St) (co d : Nat) : Prop := d ≠ 0 → ∃ r, r < 4 ∧ τ 10 (co * 4 + (d - 1)) = nI r

set_option maxHeartbeats 4000000 in
theorem k1_badCo (l : Launch) (τ : St) (x : Int32)  : Ci1 l yX1_badCo cX1_badCo 2 .boolean 0 0 [.int x] τ (fun r u => r = bd x ∧ u = τ) := by
  refine e1_i (by decide) rfl (fun _ => Nat.le_of_ble_eq_true rfl) ?_
  intro pG eN R sT mD aR bL mT cD Q dC dI A oA qA dA hR X hA hret ls hl hw
  have hx := X.1.1
  have hb := X.1.2.1
  have hl : lv_has ls 2 [(0, .ref oA), (1, .int x)] := hl
  refine lv_iload_n hx hb dX1_badCo_0 rfl (lv_at hl 1 rfl) ?_
  refine lv_if_lt (tgt := 9) hx hb dX1_badCo_1 (by decide) (fun c1 => ?_) (fun c1 => ?_)
  · refine lv_iconst (v := 1) hx hb dX1_badCo_9 (by decide) ?_
    refine lv_goto (tgt := 14) hx hb dX1_badCo_10 (by decide) ?_
    exact hret _ _ _ _ _ _ dX1_badCo_14 rfl ⟨by rw [bd, if_pos c1], rfl⟩ hw
  · refine lv_iload_n hx hb dX1_badCo_4 rfl (lv_at hl 1 rfl) ?_
    refine lv_iconst (v := 3) hx hb dX1_badCo_5 (by decide) ?_
    refine lv_icmp_le (tgt := 13) hx hb dX1_badCo_6 (by decide) (fun c6 => ?_) (fun c6 => ?_)
    · refine lv_iconst (v := 0) hx hb dX1_badCo_13 (by decide) ?_
      exact hret _ _ _ _ _ _ dX1_badCo_14 rfl ⟨by rw [bd, if_neg c1, if_pos c6], rfl⟩ hw
    · refine lv_iconst (v := 1) hx hb dX1_badCo_9 (by decide) ?_
      refine lv_goto (tgt := 14) hx hb dX1_badCo_10 (by decide) ?_
      exact hret _ _ _ _ _ _ dX1_badCo_14 rfl ⟨by rw [bd, if_neg c1, if_neg c6], rfl⟩ hw

set_option maxHeartbeats 4000000 in
theorem k1_state (l : Launch) (τ : St) (x : Int32)  : Ci1 l yX1_state cX1_state 2 .int 1 21 [.int x] τ (fun r u => r = qu 4 τ x ∧ u = τ) := by
  refine e1_i (by decide) rfl (fun _ => Nat.le_of_ble_eq_true rfl) ?_
  intro pG eN R sT mD aR bL mT cD Q dC dI A oA qA dA hR X hA hret ls hl hw
  have hx := X.1.1
  have hb := X.1.2.1
  have hl : lv_has ls 2 [(0, .ref oA), (1, .int x)] := hl
  refine lv_aload_n hx hb dX1_state_0 rfl (lv_at hl 0 rfl) ?_
  refine lv_iload_n hx hb dX1_state_1 rfl (lv_at hl 1 rfl) ?_
  refine r1_calli (rest := []) 1 X hA hw (k1_badCo l τ x) (lw_V q243 q245 qs15 q23 q246) (by decide +kernel) rfl (by rw [hR]; exact ⟨Nat.le_of_ble_eq_true rfl, Nat.le_of_ble_eq_true rfl⟩) hl.1 rfl (Nat.le_of_ble_eq_true rfl) dX1_state_2 ⟨Nat.zero_le _, Nat.zero_le _⟩ (fun r u H locs hu hw _ _ => ?_)
  obtain ⟨er, hu⟩ := hu
  rw [hu] at hw
  rw [er]
  refine lv_if_eq (tgt := 12) hx hb dX1_state_5 (by decide) (fun c5 => ?_) (fun c5 => ?_)
  · obtain ⟨k, hk, ek⟩ := bd_ok c5
    refine lv_aload_n hx hb dX1_state_12 rfl (lv_at hl 0 rfl) ?_
    refine r1_get X hw 4 (by decide) q202 rfl rfl dX1_state_13 ?_
    refine lv_iload_n hx hb dX1_state_16 rfl (lv_at hl 1 rfl) ?_
    refine r1_ald X hw 4 (k := 4) rfl k ek hk dX1_state_17 ?_
    exact hret _ _ _ _ _ _ dX1_state_18 rfl ⟨by rw [qu, if_pos c5, ek, cn_nI (by omega)], rfl⟩ hw
  · refine lv_iconst (v := (-1)) hx hb dX1_state_8 (by decide) ?_
    refine lv_goto (tgt := 18) hx hb dX1_state_9 (by decide) ?_
    exact hret _ _ _ _ _ _ dX1_state_18 rfl ⟨by rw [qu, if_neg c5], rfl⟩ hw

set_option maxHeartbeats 4000000 in
theorem k1_value (l : Launch) (τ : St) (x : Int32)  : Ci1 l yX1_value cX1_value 2 .int 1 21 [.int x] τ (fun r u => r = qu 5 τ x ∧ u = τ) := by
  refine e1_i (by decide) rfl (fun _ => Nat.le_of_ble_eq_true rfl) ?_
  intro pG eN R sT mD aR bL mT cD Q dC dI A oA qA dA hR X hA hret ls hl hw
  have hx := X.1.1
  have hb := X.1.2.1
  have hl : lv_has ls 2 [(0, .ref oA), (1, .int x)] := hl
  refine lv_aload_n hx hb dX1_value_0 rfl (lv_at hl 0 rfl) ?_
  refine lv_iload_n hx hb dX1_value_1 rfl (lv_at hl 1 rfl) ?_
  refine r1_calli (rest := []) 1 X hA hw (k1_badCo l τ x) (lw_V q243 q245 qs15 q23 q246) (by decide +kernel) rfl (by rw [hR]; exact ⟨Nat.le_of_ble_eq_true rfl, Nat.le_of_ble_eq_true rfl⟩) hl.1 rfl (Nat.le_of_ble_eq_true rfl) dX1_value_2 ⟨Nat.zero_le _, Nat.zero_le _⟩ (fun r u H locs hu hw _ _ => ?_)
  obtain ⟨er, hu⟩ := hu
  rw [hu] at hw
  rw [er]
  refine lv_if_eq (tgt := 12) hx hb dX1_value_5 (by decide) (fun c5 => ?_) (fun c5 => ?_)
  · obtain ⟨k, hk, ek⟩ := bd_ok c5
    refine lv_aload_n hx hb dX1_value_12 rfl (lv_at hl 0 rfl) ?_
    refine r1_get X hw 5 (by decide) q203 rfl rfl dX1_value_13 ?_
    refine lv_iload_n hx hb dX1_value_16 rfl (lv_at hl 1 rfl) ?_
    refine r1_ald X hw 5 (k := 5) rfl k ek hk dX1_value_17 ?_
    exact hret _ _ _ _ _ _ dX1_value_18 rfl ⟨by rw [qu, if_pos c5, ek, cn_nI (by omega)], rfl⟩ hw
  · refine lv_iconst (v := (-1)) hx hb dX1_value_8 (by decide) ?_
    refine lv_goto (tgt := 18) hx hb dX1_value_9 (by decide) ?_
    exact hret _ _ _ _ _ _ dX1_value_18 rfl ⟨by rw [qu, if_neg c5], rfl⟩ hw

set_option maxHeartbeats 4000000 in
theorem k1_depth (l : Launch) (τ : St) (x : Int32)  : Ci1 l yX1_depth cX1_depth 2 .int 1 21 [.int x] τ (fun r u => r = qu 7 τ x ∧ u = τ) := by
  refine e1_i (by decide) rfl (fun _ => Nat.le_of_ble_eq_true rfl) ?_
  intro pG eN R sT mD aR bL mT cD Q dC dI A oA qA dA hR X hA hret ls hl hw
  have hx := X.1.1
  have hb := X.1.2.1
  have hl : lv_has ls 2 [(0, .ref oA), (1, .int x)] := hl
  refine lv_aload_n hx hb dX1_depth_0 rfl (lv_at hl 0 rfl) ?_
  refine lv_iload_n hx hb dX1_depth_1 rfl (lv_at hl 1 rfl) ?_
  refine r1_calli (rest := []) 1 X hA hw (k1_badCo l τ x) (lw_V q243 q245 qs15 q23 q246) (by decide +kernel) rfl (by rw [hR]; exact ⟨Nat.le_of_ble_eq_true rfl, Nat.le_of_ble_eq_true rfl⟩) hl.1 rfl (Nat.le_of_ble_eq_true rfl) dX1_depth_2 ⟨Nat.zero_le _, Nat.zero_le _⟩ (fun r u H locs hu hw _ _ => ?_)
  obtain ⟨er, hu⟩ := hu
  rw [hu] at hw
  rw [er]
  refine lv_if_eq (tgt := 12) hx hb dX1_depth_5 (by decide) (fun c5 => ?_) (fun c5 => ?_)
  · obtain ⟨k, hk, ek⟩ := bd_ok c5
    refine lv_aload_n hx hb dX1_depth_12 rfl (lv_at hl 0 rfl) ?_
    refine r1_get X hw 7 (by decide) q205 rfl rfl dX1_depth_13 ?_
    refine lv_iload_n hx hb dX1_depth_16 rfl (lv_at hl 1 rfl) ?_
    refine r1_ald X hw 7 (k := 7) rfl k ek hk dX1_depth_17 ?_
    exact hret _ _ _ _ _ _ dX1_depth_18 rfl ⟨by rw [qu, if_pos c5, ek, cn_nI (by omega)], rfl⟩ hw
  · refine lv_iconst (v := (-1)) hx hb dX1_depth_8 (by decide) ?_
    refine lv_goto (tgt := 18) hx hb dX1_depth_9 (by decide) ?_
    exact hret _ _ _ _ _ _ dX1_depth_18 rfl ⟨by rw [qu, if_neg c5], rfl⟩ hw

set_option maxHeartbeats 4000000 in
theorem k1_steps (l : Launch) (τ : St) (x : Int32)  : Ci1 l yX1_steps cX1_steps 2 .int 1 21 [.int x] τ (fun r u => r = qu 6 τ x ∧ u = τ) := by
  refine e1_i (by decide) rfl (fun _ => Nat.le_of_ble_eq_true rfl) ?_
  intro pG eN R sT mD aR bL mT cD Q dC dI A oA qA dA hR X hA hret ls hl hw
  have hx := X.1.1
  have hb := X.1.2.1
  have hl : lv_has ls 2 [(0, .ref oA), (1, .int x)] := hl
  refine lv_aload_n hx hb dX1_steps_0 rfl (lv_at hl 0 rfl) ?_
  refine lv_iload_n hx hb dX1_steps_1 rfl (lv_at hl 1 rfl) ?_
  refine r1_calli (rest := []) 1 X hA hw (k1_badCo l τ x) (lw_V q243 q245 qs15 q23 q246) (by decide +kernel) rfl (by rw [hR]; exact ⟨Nat.le_of_ble_eq_true rfl, Nat.le_of_ble_eq_true rfl⟩) hl.1 rfl (Nat.le_of_ble_eq_true rfl) dX1_steps_2 ⟨Nat.zero_le _, Nat.zero_le _⟩ (fun r u H locs hu hw _ _ => ?_)
  obtain ⟨er, hu⟩ := hu
  rw [hu] at hw
  rw [er]
  refine lv_if_eq (tgt := 12) hx hb dX1_steps_5 (by decide) (fun c5 => ?_) (fun c5 => ?_)
  · obtain ⟨k, hk, ek⟩ := bd_ok c5
    refine lv_aload_n hx hb dX1_steps_12 rfl (lv_at hl 0 rfl) ?_
    refine r1_get X hw 6 (by decide) q204 rfl rfl dX1_steps_13 ?_
    refine lv_iload_n hx hb dX1_steps_16 rfl (lv_at hl 1 rfl) ?_
    refine r1_ald X hw 6 (k := 6) rfl k ek hk dX1_steps_17 ?_
    exact hret _ _ _ _ _ _ dX1_steps_18 rfl ⟨by rw [qu, if_pos c5, ek, cn_nI (by omega)], rfl⟩ hw
  · refine lv_iconst (v := (-1)) hx hb dX1_steps_8 (by decide) ?_
    refine lv_goto (tgt := 18) hx hb dX1_steps_9 (by decide) ?_
    exact hret _ _ _ _ _ _ dX1_steps_18 rfl ⟨by rw [qu, if_neg c5], rfl⟩ hw

set_option maxHeartbeats 4000000 in
theorem k1_alike (l : Launch) (τ : St) (x y : Int32)  : Ci1 l yX1_alike cX1_alike 3 .boolean 1 21 [.int x, .int y] τ (fun r u => r = al 4 5 τ x y ∧ u = τ) := by
  refine e1_i (by decide) rfl (fun _ => Nat.le_of_ble_eq_true rfl) ?_
  intro pG eN R sT mD aR bL mT cD Q dC dI A oA qA dA hR X hA hret ls hl hw
  have hx := X.1.1
  have hb := X.1.2.1
  have hl : lv_has ls 3 [(0, .ref oA), (1, .int x), (2, .int y)] := hl
  refine lv_aload_n hx hb dX1_alike_0 rfl (lv_at hl 0 rfl) ?_
  refine lv_iload_n hx hb dX1_alike_1 rfl (lv_at hl 1 rfl) ?_
  refine r1_calli (rest := []) 1 X hA hw (k1_badCo l τ x) (lw_V q243 q245 qs15 q23 q246) (by decide +kernel) rfl (by rw [hR]; exact ⟨Nat.le_of_ble_eq_true rfl, Nat.le_of_ble_eq_true rfl⟩) hl.1 rfl (Nat.le_of_ble_eq_true rfl) dX1_alike_2 ⟨Nat.zero_le _, Nat.zero_le _⟩ (fun r u H locs hu hw _ _ => ?_)
  obtain ⟨er, hu⟩ := hu
  rw [hu] at hw
  rw [er]
  refine lv_if_ne (tgt := 50) hx hb dX1_alike_5 (by decide) (fun c5 => ?_) (fun c5 => ?_)
  · refine lv_iconst (v := 0) hx hb dX1_alike_50 (by decide) ?_
    exact hret _ _ _ _ _ _ dX1_alike_51 rfl ⟨by rw [al, if_neg c5], rfl⟩ hw
  · obtain ⟨k, hk, ek⟩ := bd_ok c5
    refine lv_aload_n hx hb dX1_alike_8 rfl (lv_at hl 0 rfl) ?_
    refine lv_iload_n hx hb dX1_alike_9 rfl (lv_at hl 2 rfl) ?_
    refine r1_calli (rest := []) 1 X hA hw (k1_badCo l τ y) (lw_V q243 q245 qs15 q23 q246) (by decide +kernel) rfl (by rw [hR]; exact ⟨Nat.le_of_ble_eq_true rfl, Nat.le_of_ble_eq_true rfl⟩) hl.1 rfl (Nat.le_of_ble_eq_true rfl) dX1_alike_10 ⟨Nat.zero_le _, Nat.zero_le _⟩ (fun r u H locs hu hw _ _ => ?_)
    obtain ⟨er, hu⟩ := hu
    rw [hu] at hw
    rw [er]
    refine lv_if_ne (tgt := 50) hx hb dX1_alike_13 (by decide) (fun c13 => ?_) (fun c13 => ?_)
    · refine lv_iconst (v := 0) hx hb dX1_alike_50 (by decide) ?_
      exact hret _ _ _ _ _ _ dX1_alike_51 rfl ⟨by rw [al, if_pos c5, if_neg c13], rfl⟩ hw
    · obtain ⟨j, hj, ej⟩ := bd_ok c13
      refine lv_aload_n hx hb dX1_alike_16 rfl (lv_at hl 0 rfl) ?_
      refine r1_get X hw 4 (by decide) q202 rfl rfl dX1_alike_17 ?_
      refine lv_iload_n hx hb dX1_alike_20 rfl (lv_at hl 1 rfl) ?_
      refine r1_ald X hw 4 (k := 4) rfl k ek hk dX1_alike_21 ?_
      refine lv_aload_n hx hb dX1_alike_22 rfl (lv_at hl 0 rfl) ?_
      refine r1_get X hw 4 (by decide) q202 rfl rfl dX1_alike_23 ?_
      refine lv_iload_n hx hb dX1_alike_26 rfl (lv_at hl 2 rfl) ?_
      refine r1_ald X hw 4 (k := 4) rfl j ej hj dX1_alike_27 ?_
      refine lv_icmp_ne (tgt := 50) hx hb dX1_alike_28 (by decide) (fun c28 => ?_) (fun c28 => ?_)
      · refine lv_iconst (v := 0) hx hb dX1_alike_50 (by decide) ?_
        exact hret _ _ _ _ _ _ dX1_alike_51 rfl ⟨by rw [al, if_pos c5, if_pos c13, ek, ej, cn_nI (by omega), cn_nI (by omega), if_neg c28], rfl⟩ hw
      · refine lv_aload_n hx hb dX1_alike_31 rfl (lv_at hl 0 rfl) ?_
        refine r1_get X hw 5 (by decide) q203 rfl rfl dX1_alike_32 ?_
        refine lv_iload_n hx hb dX1_alike_35 rfl (lv_at hl 1 rfl) ?_
        refine r1_ald X hw 5 (k := 5) rfl k ek hk dX1_alike_36 ?_
        refine lv_aload_n hx hb dX1_alike_37 rfl (lv_at hl 0 rfl) ?_
        refine r1_get X hw 5 (by decide) q203 rfl rfl dX1_alike_38 ?_
        refine lv_iload_n hx hb dX1_alike_41 rfl (lv_at hl 2 rfl) ?_
        refine r1_ald X hw 5 (k := 5) rfl j ej hj dX1_alike_42 ?_
        refine lv_icmp_ne (tgt := 50) hx hb dX1_alike_43 (by decide) (fun c43 => ?_) (fun c43 => ?_)
        · refine lv_iconst (v := 0) hx hb dX1_alike_50 (by decide) ?_
          exact hret _ _ _ _ _ _ dX1_alike_51 rfl ⟨by rw [al, if_pos c5, if_pos c13, ek, ej, cn_nI (by omega), cn_nI (by omega), if_pos c28, if_neg c43], rfl⟩ hw
        · refine lv_iconst (v := 1) hx hb dX1_alike_46 (by decide) ?_
          refine lv_goto (tgt := 51) hx hb dX1_alike_47 (by decide) ?_
          exact hret _ _ _ _ _ _ dX1_alike_51 rfl ⟨by rw [al, if_pos c5, if_pos c13, ek, ej, cn_nI (by omega), cn_nI (by omega), if_pos c28, if_pos c43], rfl⟩ hw

set_option maxHeartbeats 4000000 in
theorem k1_end (l : Launch) (τ : St) (co : Nat) (st v : Int32) (hco : co < 4) : Cv1 l yX1_end cX1_end 4 0 0 [.int (nI co), .int st, .int v] τ (fun u => u = en τ co st v) := by
  refine e1_v (by decide) rfl (fun _ => Nat.le_of_ble_eq_true rfl) ?_
  intro pG eN R sT mD aR bL mT cD Q dC dI A oA qA dA hR X hA hret ls hl hw
  have hx := X.1.1
  have hb := X.1.2.1
  have hl : lv_has ls 4 [(0, .ref oA), (1, .int (nI co)), (2, .int st), (3, .int v)] := hl
  refine lv_aload_n hx hb dX1_end_0 rfl (lv_at hl 0 rfl) ?_
  refine r1_get X hw 4 (by decide) q202 rfl rfl dX1_end_1 ?_
  refine lv_iload_n hx hb dX1_end_4 rfl (lv_at hl 1 rfl) ?_
  refine lv_iload_n hx hb dX1_end_5 rfl (lv_at hl 2 rfl) ?_
  refine r1_ast X hw 4 (k := 4) rfl co rfl (show co < _ by first | assumption | (simp only [fl1]; omega)) dX1_end_6 (fun H locs hw => ?_)
  refine lv_aload_n hx hb dX1_end_7 rfl (lv_at hl 0 rfl) ?_
  refine r1_get X hw 5 (by decide) q203 rfl rfl dX1_end_8 ?_
  refine lv_iload_n hx hb dX1_end_11 rfl (lv_at hl 1 rfl) ?_
  refine lv_iload_n hx hb dX1_end_12 rfl (lv_at hl 3 rfl) ?_
  refine r1_ast X hw 5 (k := 5) rfl co rfl (show co < _ by first | assumption | (simp only [fl1]; omega)) dX1_end_13 (fun H locs hw => ?_)
  refine lv_aload_n hx hb dX1_end_14 rfl (lv_at hl 0 rfl) ?_
  refine r1_get X hw 7 (by decide) q205 rfl rfl dX1_end_15 ?_
  refine lv_iload_n hx hb dX1_end_18 rfl (lv_at hl 1 rfl) ?_
  refine lv_iconst (v := 0) hx hb dX1_end_19 (by decide) ?_
  refine r1_ast X hw 7 (k := 7) rfl co rfl (show co < _ by first | assumption | (simp only [fl1]; omega)) dX1_end_20 (fun H locs hw => ?_)
  exact hret _ _ _ _ _ dX1_end_21 rfl hw

set_option maxHeartbeats 4000000 in
theorem k1_push (l : Launch) (τ : St) (co d : Nat) (f x : Int32) (hco : co < 4) (hd : d < 4) (ed : τ 7 co = nI d) : Cv1 l yX1_push cX1_push 5 0 0 [.int (nI co), .int f, .int x] τ (fun u => u = pu τ co d f x) := by
  refine e1_v (by decide) rfl (fun _ => Nat.le_of_ble_eq_true rfl) ?_
  intro pG eN R sT mD aR bL mT cD Q dC dI A oA qA dA hR X hA hret ls hl hw
  have hx := X.1.1
  have hb := X.1.2.1
  have hl : lv_has ls 5 [(0, .ref oA), (1, .int (nI co)), (2, .int f), (3, .int x)] := hl
  refine lv_iload_n hx hb dX1_push_0 rfl (lv_at hl 1 rfl) ?_
  refine lv_iconst (v := nI 4) hx hb dX1_push_1 (by decide) ?_
  refine lv_imul hx hb dX1_push_2 ?_
  refine x_top (y := nI (co * 4)) (pk_mul _ _) ?_
  refine lv_aload_n hx hb dX1_push_3 rfl (lv_at hl 0 rfl) ?_
  refine r1_get X hw 7 (by decide) q205 rfl rfl dX1_push_4 ?_
  refine lv_iload_n hx hb dX1_push_7 rfl (lv_at hl 1 rfl) ?_
  refine r1_ald X hw 7 (k := 7) rfl co rfl (show co < _ by first | assumption | (simp only [fl1]; omega)) dX1_push_8 ?_
  refine x_top (y := nI d) ed ?_
  refine lv_iadd hx hb dX1_push_9 ?_
  refine x_top (y := nI (co * 4 + d)) (nI_add _ _) ?_
  refine lv_istore (lv' := [(4, .int (nI (co * 4 + d))), (0, .ref oA), (1, .int (nI co)), (2, .int f), (3, .int x)]) hx hb dX1_push_10 hl (by decide) rfl (fun ls hl => ?_)
  refine lv_aload_n hx hb dX1_push_12 rfl (lv_at hl 1 rfl) ?_
  refine r1_get X hw 8 (by decide) q206 rfl rfl dX1_push_13 ?_
  refine lv_iload hx hb dX1_push_16 (lv_at hl 0 rfl) ?_
  refine lv_iload_n hx hb dX1_push_18 rfl (lv_at hl 3 rfl) ?_
  refine r1_ast X hw 8 (k := 8) rfl (co * 4 + d) rfl (show (co * 4 + d) < _ by first | assumption | (simp only [fl1]; omega)) dX1_push_19 (fun H locs hw => ?_)
  refine lv_aload_n hx hb dX1_push_20 rfl (lv_at hl 1 rfl) ?_
  refine r1_get X hw 9 (by decide) q207 rfl rfl dX1_push_21 ?_
  refine lv_iload hx hb dX1_push_24 (lv_at hl 0 rfl) ?_
  refine lv_iconst (v := 0) hx hb dX1_push_26 (by decide) ?_
  refine r1_ast X hw 9 (k := 9) rfl (co * 4 + d) rfl (show (co * 4 + d) < _ by first | assumption | (simp only [fl1]; omega)) dX1_push_27 (fun H locs hw => ?_)
  refine lv_aload_n hx hb dX1_push_28 rfl (lv_at hl 1 rfl) ?_
  refine r1_get X hw 11 (by decide) q209 rfl rfl dX1_push_29 ?_
  refine lv_iload hx hb dX1_push_32 (lv_at hl 0 rfl) ?_
  refine lv_iconst (v := nI 4) hx hb dX1_push_34 (by decide) ?_
  refine lv_imul hx hb dX1_push_35 ?_
  refine x_top (y := nI ((co * 4 + d) * 4)) (pk_mul _ _) ?_
  refine lv_iload_n hx hb dX1_push_36 rfl (lv_at hl 4 rfl) ?_
  refine r1_ast X hw 11 (k := 11) rfl ((co * 4 + d) * 4) rfl (show ((co * 4 + d) * 4) < _ by first | assumption | (simp only [fl1]; omega)) dX1_push_37 (fun H locs hw => ?_)
  refine lv_aload_n hx hb dX1_push_38 rfl (lv_at hl 1 rfl) ?_
  refine r1_get X hw 11 (by decide) q209 rfl rfl dX1_push_39 ?_
  refine lv_iload hx hb dX1_push_42 (lv_at hl 0 rfl) ?_
  refine lv_iconst (v := nI 4) hx hb dX1_push_44 (by decide) ?_
  refine lv_imul hx hb dX1_push_45 ?_
  refine x_top (y := nI ((co * 4 + d) * 4)) (pk_mul _ _) ?_
  refine lv_iconst (v := 1) hx hb dX1_push_46 (by decide) ?_
  refine lv_iadd hx hb dX1_push_47 ?_
  refine x_top (y := nI ((co * 4 + d) * 4 + 1)) (nI_1 _) ?_
  refine lv_iconst (v := 0) hx hb dX1_push_48 (by decide) ?_
  refine r1_ast X hw 11 (k := 11) rfl ((co * 4 + d) * 4 + 1) rfl (show ((co * 4 + d) * 4 + 1) < _ by first | assumption | (simp only [fl1]; omega)) dX1_push_49 (fun H locs hw => ?_)
  refine lv_aload_n hx hb dX1_push_50 rfl (lv_at hl 1 rfl) ?_
  refine r1_get X hw 11 (by decide) q209 rfl rfl dX1_push_51 ?_
  refine lv_iload hx hb dX1_push_54 (lv_at hl 0 rfl) ?_
  refine lv_iconst (v := nI 4) hx hb dX1_push_56 (by decide) ?_
  refine lv_imul hx hb dX1_push_57 ?_
  refine x_top (y := nI ((co * 4 + d) * 4)) (pk_mul _ _) ?_
  refine lv_iconst (v := nI 2) hx hb dX1_push_58 (by decide) ?_
  refine lv_iadd hx hb dX1_push_59 ?_
  refine x_top (y := nI ((co * 4 + d) * 4 + 2)) (nI_add _ _) ?_
  refine lv_iconst (v := 0) hx hb dX1_push_60 (by decide) ?_
  refine r1_ast X hw 11 (k := 11) rfl ((co * 4 + d) * 4 + 2) rfl (show ((co * 4 + d) * 4 + 2) < _ by first | assumption | (simp only [fl1]; omega)) dX1_push_61 (fun H locs hw => ?_)
  refine lv_aload_n hx hb dX1_push_62 rfl (lv_at hl 1 rfl) ?_
  refine r1_get X hw 11 (by decide) q209 rfl rfl dX1_push_63 ?_
  refine lv_iload hx hb dX1_push_66 (lv_at hl 0 rfl) ?_
  refine lv_iconst (v := nI 4) hx hb dX1_push_68 (by decide) ?_
  refine lv_imul hx hb dX1_push_69 ?_
  refine x_top (y := nI ((co * 4 + d) * 4)) (pk_mul _ _) ?_
  refine lv_iconst (v := nI 3) hx hb dX1_push_70 (by decide) ?_
  refine lv_iadd hx hb dX1_push_71 ?_
  refine x_top (y := nI ((co * 4 + d) * 4 + 3)) (nI_add _ _) ?_
  refine lv_iconst (v := 0) hx hb dX1_push_72 (by decide) ?_
  refine r1_ast X hw 11 (k := 11) rfl ((co * 4 + d) * 4 + 3) rfl (show ((co * 4 + d) * 4 + 3) < _ by first | assumption | (simp only [fl1]; omega)) dX1_push_73 (fun H locs hw => ?_)
  refine lv_aload_n hx hb dX1_push_74 rfl (lv_at hl 1 rfl) ?_
  refine r1_get X hw 7 (by decide) q205 rfl rfl dX1_push_75 ?_
  refine lv_iload_n hx hb dX1_push_78 rfl (lv_at hl 2 rfl) ?_
  refine lv_aload_n hx hb dX1_push_79 rfl (lv_at hl 1 rfl) ?_
  refine r1_get X hw 7 (by decide) q205 rfl rfl dX1_push_80 ?_
  refine lv_iload_n hx hb dX1_push_83 rfl (lv_at hl 2 rfl) ?_
  refine r1_ald X hw 7 (k := 7) rfl co rfl (show co < _ by first | assumption | (simp only [fl1]; omega)) dX1_push_84 ?_
  refine x_top (y := nI d) ed ?_
  refine lv_iconst (v := 1) hx hb dX1_push_85 (by decide) ?_
  refine lv_iadd hx hb dX1_push_86 ?_
  refine x_top (y := nI (d + 1)) (nI_1 _) ?_
  refine r1_ast X hw 7 (k := 7) rfl co rfl (show co < _ by first | assumption | (simp only [fl1]; omega)) dX1_push_87 (fun H locs hw => ?_)
  exact hret _ _ _ _ _ dX1_push_88 rfl hw

set_option maxHeartbeats 4000000 in
theorem k1_start (l : Launch) (τ : St) (x f v : Int32)  : Ci1 l yX1_start cX1_start 4 .int 1 24 [.int x, .int f, .int v] τ (fun r u => r = (st1 τ x f v).1 ∧ u = (st1 τ x f v).2) := by
  refine e1_i (by decide) rfl (fun _ => Nat.le_of_ble_eq_true rfl) ?_
  intro pG eN R sT mD aR bL mT cD Q dC dI A oA qA dA hR X hA hret ls hl hw
  have hx := X.1.1
  have hb := X.1.2.1
  have hl : lv_has ls 4 [(0, .ref oA), (1, .int x), (2, .int f), (3, .int v)] := hl
  refine lv_aload_n hx hb dX1_start_0 rfl (lv_at hl 0 rfl) ?_
  refine lv_iload_n hx hb dX1_start_1 rfl (lv_at hl 1 rfl) ?_
  refine r1_calli (rest := []) 1 X hA hw (k1_badCo l τ x) (lw_V q243 q245 qs15 q23 q246) (by decide +kernel) rfl (by rw [hR]; exact ⟨Nat.le_of_ble_eq_true rfl, Nat.le_of_ble_eq_true rfl⟩) hl.1 rfl (Nat.le_of_ble_eq_true rfl) dX1_start_2 ⟨Nat.zero_le _, Nat.zero_le _⟩ (fun r u H locs hu hw _ _ => ?_)
  obtain ⟨er, hu⟩ := hu
  rw [hu] at hw
  rw [er]
  refine lv_if_ne (tgt := 17) hx hb dX1_start_5 (by decide) (fun c5 => ?_) (fun c5 => ?_)
  · refine lv_iconst (v := (-1)) hx hb dX1_start_17 (by decide) ?_
    exact hret _ _ _ _ _ _ dX1_start_18 rfl ⟨by rw [st1, if_neg c5], by rw [st1, if_neg c5]⟩ hw
  · obtain ⟨k, hk, rfl⟩ := bd_ok c5
    refine lv_iload_n hx hb dX1_start_8 rfl (lv_at hl 2 rfl) ?_
    refine lv_if_lt (tgt := 17) hx hb dX1_start_9 (by decide) (fun c9 => ?_) (fun c9 => ?_)
    · refine lv_iconst (v := (-1)) hx hb dX1_start_17 (by decide) ?_
      exact hret _ _ _ _ _ _ dX1_start_18 rfl ⟨by rw [st1, if_pos c5, if_pos c9], by rw [st1, if_pos c5, if_pos c9]⟩ hw
    · refine lv_iload_n hx hb dX1_start_12 rfl (lv_at hl 2 rfl) ?_
      refine lv_iconst (v := 2) hx hb dX1_start_13 (by decide) ?_
      refine lv_icmp_le (tgt := 19) hx hb dX1_start_14 (by decide) (fun c14 => ?_) (fun c14 => ?_)
      · refine lv_aload_n hx hb dX1_start_19 rfl (lv_at hl 0 rfl) ?_
        refine r1_get X hw 7 (by decide) q205 rfl rfl dX1_start_20 ?_
        refine lv_iload_n hx hb dX1_start_23 rfl (lv_at hl 1 rfl) ?_
        refine lv_iconst (v := 0) hx hb dX1_start_24 (by decide) ?_
        refine r1_ast X hw 7 (k := 7) rfl k rfl (show k < _ by first | assumption | (simp only [fl1]; omega)) dX1_start_25 (fun H locs hw => ?_)
        refine lv_aload_n hx hb dX1_start_26 rfl (lv_at hl 0 rfl) ?_
        refine lv_iload_n hx hb dX1_start_27 rfl (lv_at hl 1 rfl) ?_
        refine lv_iload_n hx hb dX1_start_28 rfl (lv_at hl 2 rfl) ?_
        refine lv_iload_n hx hb dX1_start_29 rfl (lv_at hl 3 rfl) ?_
        refine r1_callv (rest := []) 3 X hA hw (k1_push l (su τ 7 k 0) k 0 f v hk (by decide) su_eq) (lw_V q247 q249 qs16 q23 q250) (by decide +kernel) rfl (by rw [hR]; exact ⟨Nat.le_of_ble_eq_true rfl, Nat.le_of_ble_eq_true rfl⟩) hl.1 rfl (Nat.le_of_ble_eq_true rfl) dX1_start_30 ⟨Nat.zero_le _, Nat.zero_le _⟩ (fun u H locs hu hw _ _ => ?_)
        rw [hu] at hw
        refine lv_aload_n hx hb dX1_start_33 rfl (lv_at hl 0 rfl) ?_
        refine r1_get X hw 4 (by decide) q202 rfl rfl dX1_start_34 ?_
        refine lv_iload_n hx hb dX1_start_37 rfl (lv_at hl 1 rfl) ?_
        refine lv_iconst (v := 1) hx hb dX1_start_38 (by decide) ?_
        refine r1_ast X hw 4 (k := 4) rfl k rfl (show k < _ by first | assumption | (simp only [fl1]; omega)) dX1_start_39 (fun H locs hw => ?_)
        refine lv_aload_n hx hb dX1_start_40 rfl (lv_at hl 0 rfl) ?_
        refine r1_get X hw 5 (by decide) q203 rfl rfl dX1_start_41 ?_
        refine lv_iload_n hx hb dX1_start_44 rfl (lv_at hl 1 rfl) ?_
        refine lv_iconst (v := 0) hx hb dX1_start_45 (by decide) ?_
        refine r1_ast X hw 5 (k := 5) rfl k rfl (show k < _ by first | assumption | (simp only [fl1]; omega)) dX1_start_46 (fun H locs hw => ?_)
        refine lv_aload_n hx hb dX1_start_47 rfl (lv_at hl 0 rfl) ?_
        refine r1_get X hw 6 (by decide) q204 rfl rfl dX1_start_48 ?_
        refine lv_iload_n hx hb dX1_start_51 rfl (lv_at hl 1 rfl) ?_
        refine lv_iconst (v := 0) hx hb dX1_start_52 (by decide) ?_
        refine r1_ast X hw 6 (k := 6) rfl k rfl (show k < _ by first | assumption | (simp only [fl1]; omega)) dX1_start_53 (fun H locs hw => ?_)
        refine lv_iconst (v := 0) hx hb dX1_start_54 (by decide) ?_
        exact hret _ _ _ _ _ _ dX1_start_55 rfl ⟨by rw [st1, if_pos c5, if_neg c9, if_pos c14], by rw [st1, if_pos c5, if_neg c9, if_pos c14, cn_nI (by omega)]; rfl⟩ hw
      · refine lv_iconst (v := (-1)) hx hb dX1_start_17 (by decide) ?_
        exact hret _ _ _ _ _ _ dX1_start_18 rfl ⟨by rw [st1, if_pos c5, if_neg c9, if_neg c14], by rw [st1, if_pos c5, if_neg c9, if_neg c14]⟩ hw

set_option maxHeartbeats 4000000 in
theorem k1_drop (l : Launch) (τ : St) (x : Int32)  : Ci1 l yX1_drop cX1_drop 3 .int 1 23 [.int x] τ (fun r u => r = (dr1 τ x).1 ∧ u = (dr1 τ x).2) := by
  refine e1_i (by decide) rfl (fun _ => Nat.le_of_ble_eq_true rfl) ?_
  intro pG eN R sT mD aR bL mT cD Q dC dI A oA qA dA hR X hA hret ls hl hw
  have hx := X.1.1
  have hb := X.1.2.1
  have hl : lv_has ls 3 [(0, .ref oA), (1, .int x)] := hl
  refine lv_aload_n hx hb dX1_drop_0 rfl (lv_at hl 0 rfl) ?_
  refine lv_iload_n hx hb dX1_drop_1 rfl (lv_at hl 1 rfl) ?_
  refine r1_calli (rest := []) 1 X hA hw (k1_badCo l τ x) (lw_V q243 q245 qs15 q23 q246) (by decide +kernel) rfl (by rw [hR]; exact ⟨Nat.le_of_ble_eq_true rfl, Nat.le_of_ble_eq_true rfl⟩) hl.1 rfl (Nat.le_of_ble_eq_true rfl) dX1_drop_2 ⟨Nat.zero_le _, Nat.zero_le _⟩ (fun r u H locs hu hw _ _ => ?_)
  obtain ⟨er, hu⟩ := hu
  rw [hu] at hw
  rw [er]
  refine lv_if_eq (tgt := 10) hx hb dX1_drop_5 (by decide) (fun c5 => ?_) (fun c5 => ?_)
  · obtain ⟨k, hk, rfl⟩ := bd_ok c5
    refine lv_aload_n hx hb dX1_drop_10 rfl (lv_at hl 0 rfl) ?_
    refine r1_get X hw 4 (by decide) q202 rfl rfl dX1_drop_11 ?_
    refine lv_iload_n hx hb dX1_drop_14 rfl (lv_at hl 1 rfl) ?_
    refine r1_ald X hw 4 (k := 4) rfl k rfl (show k < _ by first | assumption | (simp only [fl1]; omega)) dX1_drop_15 ?_
    refine lv_istore_n (lv' := [(2, .int (τ 4 k)), (0, .ref oA), (1, .int (nI k))]) hx hb dX1_drop_16 rfl hl (by decide) rfl (fun ls hl => ?_)
    refine lv_aload_n hx hb dX1_drop_17 rfl (lv_at hl 1 rfl) ?_
    refine lv_iload_n hx hb dX1_drop_18 rfl (lv_at hl 2 rfl) ?_
    refine lv_iconst (v := 0) hx hb dX1_drop_19 (by decide) ?_
    refine lv_iconst (v := 0) hx hb dX1_drop_20 (by decide) ?_
    refine r1_callv (rest := []) 3 X hA hw (k1_end l τ k 0 0 hk) (lw_V q263 q265 qs19 q23 q266) (by decide +kernel) rfl (by rw [hR]; exact ⟨Nat.le_of_ble_eq_true rfl, Nat.le_of_ble_eq_true rfl⟩) hl.1 rfl (Nat.le_of_ble_eq_true rfl) dX1_drop_21 ⟨Nat.zero_le _, Nat.zero_le _⟩ (fun u H locs hu hw _ _ => ?_)
    rw [hu] at hw
    refine lv_aload_n hx hb dX1_drop_24 rfl (lv_at hl 1 rfl) ?_
    refine r1_get X hw 6 (by decide) q204 rfl rfl dX1_drop_25 ?_
    refine lv_iload_n hx hb dX1_drop_28 rfl (lv_at hl 2 rfl) ?_
    refine lv_iconst (v := 0) hx hb dX1_drop_29 (by decide) ?_
    refine r1_ast X hw 6 (k := 6) rfl k rfl (show k < _ by first | assumption | (simp only [fl1]; omega)) dX1_drop_30 (fun H locs hw => ?_)
    refine lv_iload_n hx hb dX1_drop_31 rfl (lv_at hl 0 rfl) ?_
    exact hret _ _ _ _ _ _ dX1_drop_32 rfl ⟨by rw [dr1, if_pos c5, cn_nI (by omega)], by rw [dr1, if_pos c5, cn_nI (by omega)]⟩ hw
  · refine lv_iconst (v := (-1)) hx hb dX1_drop_8 (by decide) ?_
    exact hret _ _ _ _ _ _ dX1_drop_9 rfl ⟨by rw [dr1, if_neg c5], by rw [dr1, if_neg c5]⟩ hw

set_option maxHeartbeats 4000000 in
theorem k1_back (l : Launch) (τ : St) (co d : Nat) (v : Int32) (hco : co < 4) (hd : d < 4) (ed : τ 7 co = nI (d + 1)) (hgt : gtw τ co d) : Cv1 l yX1_back cX1_back 4 1 23 [.int (nI co), .int v] τ (fun u => u = ba τ co d v) := by
  refine e1_v (by decide) rfl (fun _ => Nat.le_of_ble_eq_true rfl) ?_
  intro pG eN R sT mD aR bL mT cD Q dC dI A oA qA dA hR X hA hret ls hl hw
  have hx := X.1.1
  have hb := X.1.2.1
  have hl : lv_has ls 4 [(0, .ref oA), (1, .int (nI co)), (2, .int v)] := hl
  refine lv_aload_n hx hb dX1_back_0 rfl (lv_at hl 0 rfl) ?_
  refine r1_get X hw 7 (by decide) q205 rfl rfl dX1_back_1 ?_
  refine lv_iload_n hx hb dX1_back_4 rfl (lv_at hl 1 rfl) ?_
  refine lv_aload_n hx hb dX1_back_5 rfl (lv_at hl 0 rfl) ?_
  refine r1_get X hw 7 (by decide) q205 rfl rfl dX1_back_6 ?_
  refine lv_iload_n hx hb dX1_back_9 rfl (lv_at hl 1 rfl) ?_
  refine r1_ald X hw 7 (k := 7) rfl co rfl (show co < _ by first | assumption | (simp only [fl1]; omega)) dX1_back_10 ?_
  refine x_top (y := nI (d + 1)) ed ?_
  refine lv_iconst (v := 1) hx hb dX1_back_11 (by decide) ?_
  refine lv_isub hx hb dX1_back_12 ?_
  refine x_top (y := nI d) (nI_pred d) ?_
  refine r1_ast X hw 7 (k := 7) rfl co rfl (show co < _ by first | assumption | (simp only [fl1]; omega)) dX1_back_13 (fun H locs hw => ?_)
  refine lv_aload_n hx hb dX1_back_14 rfl (lv_at hl 0 rfl) ?_
  refine r1_get X hw 7 (by decide) q205 rfl rfl dX1_back_15 ?_
  refine lv_iload_n hx hb dX1_back_18 rfl (lv_at hl 1 rfl) ?_
  refine r1_ald X hw 7 (k := 7) rfl co rfl (show co < _ by first | assumption | (simp only [fl1]; omega)) dX1_back_19 ?_
  refine x_top (y := nI d) su_eq ?_
  refine lv_if_ne (tgt := 33) hx hb dX1_back_20 (by decide) (fun c20 => ?_) (fun c20 => ?_)
  · have hd0 : d ≠ 0 := fun h => c20 (by rw [h]; rfl)
    obtain ⟨r, hr, er⟩ := hgt hd0
    refine lv_iload_n hx hb dX1_back_33 rfl (lv_at hl 1 rfl) ?_
    refine lv_iconst (v := nI 4) hx hb dX1_back_34 (by decide) ?_
    refine lv_imul hx hb dX1_back_35 ?_
    refine x_top (y := nI (co * 4)) (pk_mul _ _) ?_
    refine lv_aload_n hx hb dX1_back_36 rfl (lv_at hl 0 rfl) ?_
    refine r1_get X hw 7 (by decide) q205 rfl rfl dX1_back_37 ?_
    refine lv_iload_n hx hb dX1_back_40 rfl (lv_at hl 1 rfl) ?_
    refine r1_ald X hw 7 (k := 7) rfl co rfl (show co < _ by first | assumption | (simp only [fl1]; omega)) dX1_back_41 ?_
    refine x_top (y := nI d) su_eq ?_
    refine lv_iadd hx hb dX1_back_42 ?_
    refine x_top (y := nI (co * 4 + d)) (nI_add _ _) ?_
    refine lv_iconst (v := 1) hx hb dX1_back_43 (by decide) ?_
    refine lv_isub hx hb dX1_back_44 ?_
    refine x_top (y := nI (co * 4 + (d - 1))) (by have := nI_pred (co * 4 + (d - 1)); rwa [show co * 4 + (d - 1) + 1 = co * 4 + d by omega] at this) ?_
    refine lv_istore_n (lv' := [(3, .int (nI (co * 4 + (d - 1)))), (0, .ref oA), (1, .int (nI co)), (2, .int v)]) hx hb dX1_back_45 rfl hl (by decide) rfl (fun ls hl => ?_)
    refine lv_aload_n hx hb dX1_back_46 rfl (lv_at hl 1 rfl) ?_
    refine r1_get X hw 11 (by decide) q209 rfl rfl dX1_back_47 ?_
    refine lv_iload_n hx hb dX1_back_50 rfl (lv_at hl 0 rfl) ?_
    refine lv_iconst (v := nI 4) hx hb dX1_back_51 (by decide) ?_
    refine lv_imul hx hb dX1_back_52 ?_
    refine x_top (y := nI ((co * 4 + (d - 1)) * 4)) (pk_mul _ _) ?_
    refine lv_aload_n hx hb dX1_back_53 rfl (lv_at hl 1 rfl) ?_
    refine r1_get X hw 10 (by decide) q208 rfl rfl dX1_back_54 ?_
    refine lv_iload_n hx hb dX1_back_57 rfl (lv_at hl 0 rfl) ?_
    refine r1_ald X hw 10 (k := 10) rfl (co * 4 + (d - 1)) rfl (show (co * 4 + (d - 1)) < _ by first | assumption | (simp only [fl1]; omega)) dX1_back_58 ?_
    refine x_top (y := nI r) er ?_
    refine lv_iadd hx hb dX1_back_59 ?_
    refine x_top (y := nI ((co * 4 + (d - 1)) * 4 + r)) (nI_add _ _) ?_
    refine lv_iload_n hx hb dX1_back_60 rfl (lv_at hl 3 rfl) ?_
    refine r1_ast X hw 11 (k := 11) rfl ((co * 4 + (d - 1)) * 4 + r) rfl (show ((co * 4 + (d - 1)) * 4 + r) < _ by first | assumption | (simp only [fl1]; omega)) dX1_back_61 (fun H locs hw => ?_)
    exact hret _ _ _ _ _ dX1_back_62 (by rw [ba, if_neg hd0, er, cn_nI (by omega)]) hw
  · obtain rfl : d = 0 := nI_z (by omega) c20
    have hw : wd1 dC dI A sT.heap oA qA dA (su τ 7 co 0) H locs := hw
    refine lv_aload_n hx hb dX1_back_23 rfl (lv_at hl 0 rfl) ?_
    refine lv_iload_n hx hb dX1_back_24 rfl (lv_at hl 1 rfl) ?_
    refine lv_iconst (v := 3) hx hb dX1_back_25 (by decide) ?_
    refine lv_iload_n hx hb dX1_back_26 rfl (lv_at hl 2 rfl) ?_
    refine r1_callv (rest := []) 3 X hA hw (k1_end l (su τ 7 co 0) co 3 v hco) (lw_V q263 q265 qs19 q23 q266) (by decide +kernel) rfl (by rw [hR]; exact ⟨Nat.le_of_ble_eq_true rfl, Nat.le_of_ble_eq_true rfl⟩) hl.1 rfl (Nat.le_of_ble_eq_true rfl) dX1_back_27 ⟨Nat.zero_le _, Nat.zero_le _⟩ (fun u H locs hu hw _ _ => ?_)
    rw [hu] at hw
    refine lv_goto (tgt := 62) hx hb dX1_back_30 (by decide) ?_
    exact hret _ _ _ _ _ dX1_back_62 (by rw [ba, if_pos rfl]) hw

set_option maxHeartbeats 4000000 in
theorem k1_carryOut (l : Launch) (τ : St) (co d f p : Nat) (hco : co < 4) (hd : d < 4) (ed : τ 7 co = nI (d + 1)) (hf : f < 3) (hp : p < 8) (eF : τ 8 (co * 4 + d) = nI f) (eP : τ 9 (co * 4 + d) = nI p) (hgt : gtw τ co d) : Cv1 l yX1_carryOut cX1_carryOut 10 2 46 [.int (nI co)] τ (fun u => u = ct τ co d f p) := by
  obtain ⟨xa, hxa, exa⟩ := and3 (τ 2 (f * 8 + p))
  obtain ⟨xb, hxb, exb⟩ := and3 (τ 2 (f * 8 + p) >>> (2 &&& 31))
  have cn_a : cn (xA τ f p) = xa := by rw [xA, exa]; exact cn_nI (by omega)
  have cn_b : cn (xB τ f p) = xb := by rw [xB, exb]; exact cn_nI (by omega)
  refine e1_v (by decide) rfl (fun _ => Nat.le_of_ble_eq_true rfl) ?_
  intro pG eN R sT mD aR bL mT cD Q dC dI A oA qA dA hR X hA hret ls hl hw
  have hx := X.1.1
  have hb := X.1.2.1
  have hl : lv_has ls 10 [(0, .ref oA), (1, .int (nI co))] := hl
  refine lv_iload_n hx hb dX1_carryOut_0 rfl (lv_at hl 1 rfl) ?_
  refine lv_iconst (v := nI 4) hx hb dX1_carryOut_1 (by decide) ?_
  refine lv_imul hx hb dX1_carryOut_2 ?_
  refine x_top (y := nI (co * 4)) (pk_mul _ _) ?_
  refine lv_aload_n hx hb dX1_carryOut_3 rfl (lv_at hl 0 rfl) ?_
  refine r1_get X hw 7 (by decide) q205 rfl rfl dX1_carryOut_4 ?_
  refine lv_iload_n hx hb dX1_carryOut_7 rfl (lv_at hl 1 rfl) ?_
  refine r1_ald X hw 7 (k := 7) rfl co rfl (show co < _ by first | assumption | (simp only [fl1]; omega)) dX1_carryOut_8 ?_
  refine x_top (y := nI (d + 1)) ed ?_
  refine lv_iadd hx hb dX1_carryOut_9 ?_
  refine x_top (y := nI (co * 4 + (d + 1))) (nI_add _ _) ?_
  refine lv_iconst (v := 1) hx hb dX1_carryOut_10 (by decide) ?_
  refine lv_isub hx hb dX1_carryOut_11 ?_
  refine x_top (y := nI (co * 4 + d)) (nI_pred (co * 4 + d)) ?_
  refine lv_istore_n (lv' := [(2, .int (nI (co * 4 + d))), (0, .ref oA), (1, .int (nI co))]) hx hb dX1_carryOut_12 rfl hl (by decide) rfl (fun ls hl => ?_)
  refine lv_aload_n hx hb dX1_carryOut_13 rfl (lv_at hl 1 rfl) ?_
  refine r1_get X hw 8 (by decide) q206 rfl rfl dX1_carryOut_14 ?_
  refine lv_iload_n hx hb dX1_carryOut_17 rfl (lv_at hl 0 rfl) ?_
  refine r1_ald X hw 8 (k := 8) rfl (co * 4 + d) rfl (show (co * 4 + d) < _ by first | assumption | (simp only [fl1]; omega)) dX1_carryOut_18 ?_
  refine x_top (y := nI f) eF ?_
  refine lv_bipush (v := nI 8) hx hb dX1_carryOut_19 (by decide) ?_
  refine lv_imul hx hb dX1_carryOut_21 ?_
  refine x_top (y := nI (f * 8)) (pk_mul _ _) ?_
  refine lv_aload_n hx hb dX1_carryOut_22 rfl (lv_at hl 1 rfl) ?_
  refine r1_get X hw 9 (by decide) q207 rfl rfl dX1_carryOut_23 ?_
  refine lv_iload_n hx hb dX1_carryOut_26 rfl (lv_at hl 0 rfl) ?_
  refine r1_ald X hw 9 (k := 9) rfl (co * 4 + d) rfl (show (co * 4 + d) < _ by first | assumption | (simp only [fl1]; omega)) dX1_carryOut_27 ?_
  refine x_top (y := nI p) eP ?_
  refine lv_iadd hx hb dX1_carryOut_28 ?_
  refine x_top (y := nI (f * 8 + p)) (nI_add _ _) ?_
  refine lv_istore_n (lv' := [(3, .int (nI (f * 8 + p))), (2, .int (nI (co * 4 + d))), (0, .ref oA), (1, .int (nI co))]) hx hb dX1_carryOut_29 rfl hl (by decide) rfl (fun ls hl => ?_)
  refine lv_aload_n hx hb dX1_carryOut_30 rfl (lv_at hl 2 rfl) ?_
  refine r1_get X hw 1 (by decide) q199 rfl rfl dX1_carryOut_31 ?_
  refine lv_iload_n hx hb dX1_carryOut_34 rfl (lv_at hl 0 rfl) ?_
  refine r1_ald X hw 1 (k := 1) rfl (f * 8 + p) rfl (show (f * 8 + p) < _ by first | assumption | (simp only [fl1]; omega)) dX1_carryOut_35 ?_
  refine lv_istore (lv' := [(4, .int (τ 1 (f * 8 + p))), (3, .int (nI (f * 8 + p))), (2, .int (nI (co * 4 + d))), (0, .ref oA), (1, .int (nI co))]) hx hb dX1_carryOut_36 hl (by decide) rfl (fun ls hl => ?_)
  refine lv_aload_n hx hb dX1_carryOut_38 rfl (lv_at hl 3 rfl) ?_
  refine r1_get X hw 3 (by decide) q201 rfl rfl dX1_carryOut_39 ?_
  refine lv_iload_n hx hb dX1_carryOut_42 rfl (lv_at hl 1 rfl) ?_
  refine r1_ald X hw 3 (k := 3) rfl (f * 8 + p) rfl (show (f * 8 + p) < _ by first | assumption | (simp only [fl1]; omega)) dX1_carryOut_43 ?_
  refine lv_istore (lv' := [(5, .int (τ 3 (f * 8 + p))), (4, .int (τ 1 (f * 8 + p))), (3, .int (nI (f * 8 + p))), (2, .int (nI (co * 4 + d))), (0, .ref oA), (1, .int (nI co))]) hx hb dX1_carryOut_44 hl (by decide) rfl (fun ls hl => ?_)
  refine lv_iload_n hx hb dX1_carryOut_46 rfl (lv_at hl 3 rfl) ?_
  refine lv_iconst (v := nI 4) hx hb dX1_carryOut_47 (by decide) ?_
  refine lv_imul hx hb dX1_carryOut_48 ?_
  refine x_top (y := nI ((co * 4 + d) * 4)) (pk_mul _ _) ?_
  refine lv_aload_n hx hb dX1_carryOut_49 rfl (lv_at hl 4 rfl) ?_
  refine r1_get X hw 2 (by decide) q200 rfl rfl dX1_carryOut_50 ?_
  refine lv_iload_n hx hb dX1_carryOut_53 rfl (lv_at hl 2 rfl) ?_
  refine r1_ald X hw 2 (k := 2) rfl (f * 8 + p) rfl (show (f * 8 + p) < _ by first | assumption | (simp only [fl1]; omega)) dX1_carryOut_54 ?_
  refine lv_iconst (v := 3) hx hb dX1_carryOut_55 (by decide) ?_
  refine lv_iand hx hb dX1_carryOut_56 ?_
  refine x_top (y := nI xa) exa ?_
  refine lv_iadd hx hb dX1_carryOut_57 ?_
  refine x_top (y := nI ((co * 4 + d) * 4 + xa)) (nI_add _ _) ?_
  refine lv_istore (lv' := [(6, .int (nI ((co * 4 + d) * 4 + xa))), (5, .int (τ 3 (f * 8 + p))), (4, .int (τ 1 (f * 8 + p))), (3, .int (nI (f * 8 + p))), (2, .int (nI (co * 4 + d))), (0, .ref oA), (1, .int (nI co))]) hx hb dX1_carryOut_58 hl (by decide) rfl (fun ls hl => ?_)
  refine lv_iload_n hx hb dX1_carryOut_60 rfl (lv_at hl 4 rfl) ?_
  refine lv_iconst (v := nI 4) hx hb dX1_carryOut_61 (by decide) ?_
  refine lv_imul hx hb dX1_carryOut_62 ?_
  refine x_top (y := nI ((co * 4 + d) * 4)) (pk_mul _ _) ?_
  refine lv_aload_n hx hb dX1_carryOut_63 rfl (lv_at hl 5 rfl) ?_
  refine r1_get X hw 2 (by decide) q200 rfl rfl dX1_carryOut_64 ?_
  refine lv_iload_n hx hb dX1_carryOut_67 rfl (lv_at hl 3 rfl) ?_
  refine r1_ald X hw 2 (k := 2) rfl (f * 8 + p) rfl (show (f * 8 + p) < _ by first | assumption | (simp only [fl1]; omega)) dX1_carryOut_68 ?_
  refine lv_iconst (v := 2) hx hb dX1_carryOut_69 (by decide) ?_
  refine lv_ishr hx hb dX1_carryOut_70 ?_
  refine lv_iconst (v := 3) hx hb dX1_carryOut_71 (by decide) ?_
  refine lv_iand hx hb dX1_carryOut_72 ?_
  refine x_top (y := nI xb) exb ?_
  refine lv_iadd hx hb dX1_carryOut_73 ?_
  refine x_top (y := nI ((co * 4 + d) * 4 + xb)) (nI_add _ _) ?_
  refine lv_istore (lv' := [(7, .int (nI ((co * 4 + d) * 4 + xb))), (6, .int (nI ((co * 4 + d) * 4 + xa))), (5, .int (τ 3 (f * 8 + p))), (4, .int (τ 1 (f * 8 + p))), (3, .int (nI (f * 8 + p))), (2, .int (nI (co * 4 + d))), (0, .ref oA), (1, .int (nI co))]) hx hb dX1_carryOut_74 hl (by decide) rfl (fun ls hl => ?_)
  refine lv_aload_n hx hb dX1_carryOut_76 rfl (lv_at hl 6 rfl) ?_
  refine r1_get X hw 9 (by decide) q207 rfl rfl dX1_carryOut_77 ?_
  refine lv_iload_n hx hb dX1_carryOut_80 rfl (lv_at hl 5 rfl) ?_
  refine lv_aload_n hx hb dX1_carryOut_81 rfl (lv_at hl 6 rfl) ?_
  refine r1_get X hw 9 (by decide) q207 rfl rfl dX1_carryOut_82 ?_
  refine lv_iload_n hx hb dX1_carryOut_85 rfl (lv_at hl 5 rfl) ?_
  refine r1_ald X hw 9 (k := 9) rfl (co * 4 + d) rfl (show (co * 4 + d) < _ by first | assumption | (simp only [fl1]; omega)) dX1_carryOut_86 ?_
  refine x_top (y := nI p) eP ?_
  refine lv_iconst (v := 1) hx hb dX1_carryOut_87 (by decide) ?_
  refine lv_iadd hx hb dX1_carryOut_88 ?_
  refine x_top (y := nI (p + 1)) (nI_1 _) ?_
  refine r1_ast X hw 9 (k := 9) rfl (co * 4 + d) rfl (show (co * 4 + d) < _ by first | assumption | (simp only [fl1]; omega)) dX1_carryOut_89 (fun H locs hw => ?_)
  refine lv_iload hx hb dX1_carryOut_90 (lv_at hl 3 rfl) ?_
  refine lv_if_ne (tgt := 107) hx hb dX1_carryOut_92 (by decide) (fun c92 => ?_) (fun c92 => ?_)
  · refine lv_iload hx hb dX1_carryOut_107 (lv_at hl 3 rfl) ?_
    refine lv_iconst (v := 1) hx hb dX1_carryOut_109 (by decide) ?_
    refine lv_icmp_ne (tgt := 138) hx hb dX1_carryOut_110 (by decide) (fun c110 => ?_) (fun c110 => ?_)
    · refine lv_iload hx hb dX1_carryOut_138 (lv_at hl 3 rfl) ?_
      refine lv_iconst (v := 2) hx hb dX1_carryOut_140 (by decide) ?_
      refine lv_icmp_ne (tgt := 169) hx hb dX1_carryOut_141 (by decide) (fun c141 => ?_) (fun c141 => ?_)
      · refine lv_iload hx hb dX1_carryOut_169 (lv_at hl 3 rfl) ?_
        refine lv_iconst (v := 3) hx hb dX1_carryOut_171 (by decide) ?_
        refine lv_icmp_eq (tgt := 191) hx hb dX1_carryOut_172 (by decide) (fun c172 => ?_) (fun c172 => ?_)
        · refine lv_aload_n hx hb dX1_carryOut_191 rfl (lv_at hl 6 rfl) ?_
          refine r1_get X hw 9 (by decide) q207 rfl rfl dX1_carryOut_192 ?_
          refine lv_iload_n hx hb dX1_carryOut_195 rfl (lv_at hl 5 rfl) ?_
          refine lv_iload hx hb dX1_carryOut_196 (lv_at hl 2 rfl) ?_
          refine r1_ast X hw 9 (k := 9) rfl (co * 4 + d) rfl (show (co * 4 + d) < _ by first | assumption | (simp only [fl1]; omega)) dX1_carryOut_198 (fun H locs hw => ?_)
          refine lv_goto (tgt := 345) hx hb dX1_carryOut_199 (by decide) ?_
          exact hret _ _ _ _ _ dX1_carryOut_345 (by rw [ct, if_neg c92, if_neg c110, if_neg c141, if_pos c172]) hw
        · refine lv_iload hx hb dX1_carryOut_175 (lv_at hl 3 rfl) ?_
          refine lv_iconst (v := 4) hx hb dX1_carryOut_177 (by decide) ?_
          refine lv_icmp_ne (tgt := 202) hx hb dX1_carryOut_178 (by decide) (fun c178 => ?_) (fun c178 => ?_)
          · refine lv_iload hx hb dX1_carryOut_202 (lv_at hl 3 rfl) ?_
            refine lv_iconst (v := 5) hx hb dX1_carryOut_204 (by decide) ?_
            refine lv_icmp_ne (tgt := 247) hx hb dX1_carryOut_205 (by decide) (fun c205 => ?_) (fun c205 => ?_)
            · refine lv_iload hx hb dX1_carryOut_247 (lv_at hl 3 rfl) ?_
              refine lv_bipush (v := 6) hx hb dX1_carryOut_249 (by decide) ?_
              refine lv_icmp_ne (tgt := 274) hx hb dX1_carryOut_251 (by decide) (fun c251 => ?_) (fun c251 => ?_)
              · refine lv_iload hx hb dX1_carryOut_274 (lv_at hl 3 rfl) ?_
                refine lv_bipush (v := 6) hx hb dX1_carryOut_276 (by decide) ?_
                refine lv_icmp_ne (tgt := 326) hx hb dX1_carryOut_278 (by decide) (fun c278 => ?_) (fun c278 => ?_)
                · refine lv_iload hx hb dX1_carryOut_326 (lv_at hl 3 rfl) ?_
                  refine lv_bipush (v := 7) hx hb dX1_carryOut_328 (by decide) ?_
                  refine lv_icmp_ne (tgt := 345) hx hb dX1_carryOut_330 (by decide) (fun c330 => ?_) (fun c330 => ?_)
                  · exact hret _ _ _ _ _ dX1_carryOut_345 (by rw [ct, if_neg c92, if_neg c110, if_neg c141, if_neg c172, if_neg c178, if_neg c205, if_neg c251, if_neg c330]) hw
                  · refine lv_aload_n hx hb dX1_carryOut_333 rfl (lv_at hl 6 rfl) ?_
                    refine lv_iload_n hx hb dX1_carryOut_334 rfl (lv_at hl 7 rfl) ?_
                    refine lv_aload_n hx hb dX1_carryOut_335 rfl (lv_at hl 6 rfl) ?_
                    refine r1_get X hw 11 (by decide) q209 rfl rfl dX1_carryOut_336 ?_
                    refine lv_iload hx hb dX1_carryOut_339 (lv_at hl 1 rfl) ?_
                    refine r1_ald X hw 11 (k := 11) rfl ((co * 4 + d) * 4 + xa) rfl (show ((co * 4 + d) * 4 + xa) < _ by first | assumption | (simp only [fl1]; omega)) dX1_carryOut_341 ?_
                    refine x_top (y := τ 11 ((co * 4 + d) * 4 + xa)) rfl ?_
                    refine r1_callv (rest := []) 2 X hA hw (k1_back l (su τ 9 (co * 4 + d) (nI (p + 1))) co d (τ 11 ((co * 4 + d) * 4 + xa)) hco hd ed hgt) (lw_V q259 q261 qs18 q23 q262) (by decide +kernel) rfl (by rw [hR]; exact ⟨Nat.le_of_ble_eq_true rfl, Nat.le_of_ble_eq_true rfl⟩) hl.1 rfl (Nat.le_of_ble_eq_true rfl) dX1_carryOut_342 ⟨Nat.zero_le _, Nat.zero_le _⟩ (fun u H locs hu hw _ _ => ?_)
                    rw [hu] at hw
                    exact hret _ _ _ _ _ dX1_carryOut_345 (by rw [ct, if_neg c92, if_neg c110, if_neg c141, if_neg c172, if_neg c178, if_neg c205, if_neg c251, if_pos c330, cn_a]) hw
                · exact absurd c278 c251
              · refine lv_aload_n hx hb dX1_carryOut_254 rfl (lv_at hl 6 rfl) ?_
                refine r1_get X hw 7 (by decide) q205 rfl rfl dX1_carryOut_255 ?_
                refine lv_iload_n hx hb dX1_carryOut_258 rfl (lv_at hl 7 rfl) ?_
                refine r1_ald X hw 7 (k := 7) rfl co rfl (show co < _ by first | assumption | (simp only [fl1]; omega)) dX1_carryOut_259 ?_
                refine x_top (y := nI (d + 1)) ed ?_
                refine lv_iconst (v := nI 4) hx hb dX1_carryOut_260 (by decide) ?_
                refine lv_icmp_ne (tgt := 274) hx hb dX1_carryOut_261 (by decide) (fun c261 => ?_) (fun c261 => ?_)
                · have hd3 : ¬ d = 3 := fun h => c261 (by rw [h])
                  refine lv_iload hx hb dX1_carryOut_274 (lv_at hl 3 rfl) ?_
                  refine lv_bipush (v := 6) hx hb dX1_carryOut_276 (by decide) ?_
                  refine lv_icmp_ne (tgt := 326) hx hb dX1_carryOut_278 (by decide) (fun c278 => ?_) (fun c278 => ?_)
                  · exact absurd c251 c278
                  · refine lv_aload_n hx hb dX1_carryOut_281 rfl (lv_at hl 6 rfl) ?_
                    refine r1_get X hw 10 (by decide) q208 rfl rfl dX1_carryOut_282 ?_
                    refine lv_iload_n hx hb dX1_carryOut_285 rfl (lv_at hl 5 rfl) ?_
                    refine lv_aload_n hx hb dX1_carryOut_286 rfl (lv_at hl 6 rfl) ?_
                    refine r1_get X hw 2 (by decide) q200 rfl rfl dX1_carryOut_287 ?_
                    refine lv_iload_n hx hb dX1_carryOut_290 rfl (lv_at hl 4 rfl) ?_
                    refine r1_ald X hw 2 (k := 2) rfl (f * 8 + p) rfl (show (f * 8 + p) < _ by first | assumption | (simp only [fl1]; omega)) dX1_carryOut_291 ?_
                    refine x_top (y := τ 2 (f * 8 + p)) rfl ?_
                    refine lv_iconst (v := 3) hx hb dX1_carryOut_292 (by decide) ?_
                    refine lv_iand hx hb dX1_carryOut_293 ?_
                    refine x_top (y := xA τ f p) rfl ?_
                    refine r1_ast X hw 10 (k := 10) rfl (co * 4 + d) rfl (show (co * 4 + d) < _ by first | assumption | (simp only [fl1]; omega)) dX1_carryOut_294 (fun H locs hw => ?_)
                    refine lv_aload_n hx hb dX1_carryOut_295 rfl (lv_at hl 6 rfl) ?_
                    refine r1_get X hw 11 (by decide) q209 rfl rfl dX1_carryOut_296 ?_
                    refine lv_iload hx hb dX1_carryOut_299 (lv_at hl 1 rfl) ?_
                    refine r1_ald X hw 11 (k := 11) rfl ((co * 4 + d) * 4 + xa) rfl (show ((co * 4 + d) * 4 + xa) < _ by first | assumption | (simp only [fl1]; omega)) dX1_carryOut_301 ?_
                    refine x_top (y := τ 11 ((co * 4 + d) * 4 + xa)) rfl ?_
                    refine lv_istore (lv' := [(8, .int (τ 11 ((co * 4 + d) * 4 + xa))), (7, .int (nI ((co * 4 + d) * 4 + xb))), (6, .int (nI ((co * 4 + d) * 4 + xa))), (5, .int (τ 3 (f * 8 + p))), (4, .int (τ 1 (f * 8 + p))), (3, .int (nI (f * 8 + p))), (2, .int (nI (co * 4 + d))), (0, .ref oA), (1, .int (nI co))]) hx hb dX1_carryOut_302 hl (by decide) rfl (fun ls hl => ?_)
                    refine lv_iload hx hb dX1_carryOut_304 (lv_at hl 3 rfl) ?_
                    refine lv_iconst (v := 3) hx hb dX1_carryOut_306 (by decide) ?_
                    refine lv_irem hx hb dX1_carryOut_307 (by decide) ?_
                    refine lv_iconst (v := 3) hx hb dX1_carryOut_308 (by decide) ?_
                    refine lv_iadd hx hb dX1_carryOut_309 ?_
                    refine lv_iconst (v := 3) hx hb dX1_carryOut_310 (by decide) ?_
                    refine lv_irem hx hb dX1_carryOut_311 (by decide) ?_
                    refine x_top (y := mm3 (τ 3 (f * 8 + p))) rfl ?_
                    refine lv_istore (lv' := [(9, .int (mm3 (τ 3 (f * 8 + p)))), (8, .int (τ 11 ((co * 4 + d) * 4 + xa))), (7, .int (nI ((co * 4 + d) * 4 + xb))), (6, .int (nI ((co * 4 + d) * 4 + xa))), (5, .int (τ 3 (f * 8 + p))), (4, .int (τ 1 (f * 8 + p))), (3, .int (nI (f * 8 + p))), (2, .int (nI (co * 4 + d))), (0, .ref oA), (1, .int (nI co))]) hx hb dX1_carryOut_312 hl (by decide) rfl (fun ls hl => ?_)
                    refine lv_aload_n hx hb dX1_carryOut_314 rfl (lv_at hl 8 rfl) ?_
                    refine lv_iload_n hx hb dX1_carryOut_315 rfl (lv_at hl 9 rfl) ?_
                    refine lv_iload hx hb dX1_carryOut_316 (lv_at hl 0 rfl) ?_
                    refine lv_iload hx hb dX1_carryOut_318 (lv_at hl 1 rfl) ?_
                    refine r1_callv (rest := []) 3 X hA hw (k1_push l (su (su τ 9 (co * 4 + d) (nI (p + 1))) 10 (co * 4 + d) (xA τ f p)) co (d + 1) (mm3 (τ 3 (f * 8 + p))) (τ 11 ((co * 4 + d) * 4 + xa)) hco (by omega) ed) (lw_V q247 q249 qs16 q23 q250) (by decide +kernel) rfl (by rw [hR]; exact ⟨Nat.le_of_ble_eq_true rfl, Nat.le_of_ble_eq_true rfl⟩) hl.1 rfl (Nat.le_of_ble_eq_true rfl) dX1_carryOut_320 ⟨Nat.zero_le _, Nat.zero_le _⟩ (fun u H locs hu hw _ _ => ?_)
                    rw [hu] at hw
                    refine lv_goto (tgt := 345) hx hb dX1_carryOut_323 (by decide) ?_
                    exact hret _ _ _ _ _ dX1_carryOut_345 (by rw [ct, if_neg c92, if_neg c110, if_neg c141, if_neg c172, if_neg c178, if_neg c205, if_pos c251, if_neg hd3, cn_a]) hw
                · have hd3 : d = 3 := by have := (nI_eq (by omega) (by decide)).mp c261; omega
                  refine lv_aload_n hx hb dX1_carryOut_264 rfl (lv_at hl 6 rfl) ?_
                  refine lv_iload_n hx hb dX1_carryOut_265 rfl (lv_at hl 7 rfl) ?_
                  refine lv_iconst (v := 4) hx hb dX1_carryOut_266 (by decide) ?_
                  refine lv_iconst (v := 0) hx hb dX1_carryOut_267 (by decide) ?_
                  refine r1_callv (rest := []) 3 X hA hw (k1_end l (su τ 9 (co * 4 + d) (nI (p + 1))) co 4 0 hco) (lw_V q263 q265 qs19 q23 q266) (by decide +kernel) rfl (by rw [hR]; exact ⟨Nat.le_of_ble_eq_true rfl, Nat.le_of_ble_eq_true rfl⟩) hl.1 rfl (Nat.le_of_ble_eq_true rfl) dX1_carryOut_268 ⟨Nat.zero_le _, Nat.zero_le _⟩ (fun u H locs hu hw _ _ => ?_)
                  rw [hu] at hw
                  refine lv_goto (tgt := 345) hx hb dX1_carryOut_271 (by decide) ?_
                  exact hret _ _ _ _ _ dX1_carryOut_345 (by rw [ct, if_neg c92, if_neg c110, if_neg c141, if_neg c172, if_neg c178, if_neg c205, if_pos c251, if_pos hd3]) hw
            · refine lv_aload_n hx hb dX1_carryOut_208 rfl (lv_at hl 6 rfl) ?_
              refine r1_get X hw 10 (by decide) q208 rfl rfl dX1_carryOut_209 ?_
              refine lv_iload_n hx hb dX1_carryOut_212 rfl (lv_at hl 5 rfl) ?_
              refine lv_aload_n hx hb dX1_carryOut_213 rfl (lv_at hl 6 rfl) ?_
              refine r1_get X hw 2 (by decide) q200 rfl rfl dX1_carryOut_214 ?_
              refine lv_iload_n hx hb dX1_carryOut_217 rfl (lv_at hl 4 rfl) ?_
              refine r1_ald X hw 2 (k := 2) rfl (f * 8 + p) rfl (show (f * 8 + p) < _ by first | assumption | (simp only [fl1]; omega)) dX1_carryOut_218 ?_
              refine x_top (y := τ 2 (f * 8 + p)) rfl ?_
              refine lv_iconst (v := 2) hx hb dX1_carryOut_219 (by decide) ?_
              refine lv_ishr hx hb dX1_carryOut_220 ?_
              refine lv_iconst (v := 3) hx hb dX1_carryOut_221 (by decide) ?_
              refine lv_iand hx hb dX1_carryOut_222 ?_
              refine x_top (y := xB τ f p) rfl ?_
              refine r1_ast X hw 10 (k := 10) rfl (co * 4 + d) rfl (show (co * 4 + d) < _ by first | assumption | (simp only [fl1]; omega)) dX1_carryOut_223 (fun H locs hw => ?_)
              refine lv_aload_n hx hb dX1_carryOut_224 rfl (lv_at hl 6 rfl) ?_
              refine r1_get X hw 4 (by decide) q202 rfl rfl dX1_carryOut_225 ?_
              refine lv_iload_n hx hb dX1_carryOut_228 rfl (lv_at hl 7 rfl) ?_
              refine lv_iconst (v := 2) hx hb dX1_carryOut_229 (by decide) ?_
              refine r1_ast X hw 4 (k := 4) rfl co rfl (show co < _ by first | assumption | (simp only [fl1]; omega)) dX1_carryOut_230 (fun H locs hw => ?_)
              refine lv_aload_n hx hb dX1_carryOut_231 rfl (lv_at hl 6 rfl) ?_
              refine r1_get X hw 5 (by decide) q203 rfl rfl dX1_carryOut_232 ?_
              refine lv_iload_n hx hb dX1_carryOut_235 rfl (lv_at hl 7 rfl) ?_
              refine lv_aload_n hx hb dX1_carryOut_236 rfl (lv_at hl 6 rfl) ?_
              refine r1_get X hw 11 (by decide) q209 rfl rfl dX1_carryOut_237 ?_
              refine lv_iload hx hb dX1_carryOut_240 (lv_at hl 1 rfl) ?_
              refine r1_ald X hw 11 (k := 11) rfl ((co * 4 + d) * 4 + xa) rfl (show ((co * 4 + d) * 4 + xa) < _ by first | assumption | (simp only [fl1]; omega)) dX1_carryOut_242 ?_
              refine x_top (y := τ 11 ((co * 4 + d) * 4 + xa)) rfl ?_
              refine r1_ast X hw 5 (k := 5) rfl co rfl (show co < _ by first | assumption | (simp only [fl1]; omega)) dX1_carryOut_243 (fun H locs hw => ?_)
              refine lv_goto (tgt := 345) hx hb dX1_carryOut_244 (by decide) ?_
              exact hret _ _ _ _ _ dX1_carryOut_345 (by rw [ct, if_neg c92, if_neg c110, if_neg c141, if_neg c172, if_neg c178, if_pos c205, cn_a]) hw
          · refine lv_aload_n hx hb dX1_carryOut_181 rfl (lv_at hl 6 rfl) ?_
            refine r1_get X hw 11 (by decide) q209 rfl rfl dX1_carryOut_182 ?_
            refine lv_iload hx hb dX1_carryOut_185 (lv_at hl 1 rfl) ?_
            refine r1_ald X hw 11 (k := 11) rfl ((co * 4 + d) * 4 + xa) rfl (show ((co * 4 + d) * 4 + xa) < _ by first | assumption | (simp only [fl1]; omega)) dX1_carryOut_187 ?_
            refine x_top (y := τ 11 ((co * 4 + d) * 4 + xa)) rfl ?_
            refine lv_if_le (tgt := 202) hx hb dX1_carryOut_188 (by decide) (fun c188 => ?_) (fun c188 => ?_)
            · refine lv_iload hx hb dX1_carryOut_202 (lv_at hl 3 rfl) ?_
              refine lv_iconst (v := 5) hx hb dX1_carryOut_204 (by decide) ?_
              refine lv_icmp_ne (tgt := 247) hx hb dX1_carryOut_205 (by decide) (fun c205 => ?_) (fun c205 => ?_)
              · refine lv_iload hx hb dX1_carryOut_247 (lv_at hl 3 rfl) ?_
                refine lv_bipush (v := 6) hx hb dX1_carryOut_249 (by decide) ?_
                refine lv_icmp_ne (tgt := 274) hx hb dX1_carryOut_251 (by decide) (fun c251 => ?_) (fun c251 => ?_)
                · refine lv_iload hx hb dX1_carryOut_274 (lv_at hl 3 rfl) ?_
                  refine lv_bipush (v := 6) hx hb dX1_carryOut_276 (by decide) ?_
                  refine lv_icmp_ne (tgt := 326) hx hb dX1_carryOut_278 (by decide) (fun c278 => ?_) (fun c278 => ?_)
                  · refine lv_iload hx hb dX1_carryOut_326 (lv_at hl 3 rfl) ?_
                    refine lv_bipush (v := 7) hx hb dX1_carryOut_328 (by decide) ?_
                    refine lv_icmp_ne (tgt := 345) hx hb dX1_carryOut_330 (by decide) (fun c330 => ?_) (fun c330 => ?_)
                    · exact hret _ _ _ _ _ dX1_carryOut_345 (by rw [ct, if_neg c92, if_neg c110, if_neg c141, if_neg c172, if_pos c178, cn_a, if_pos c188]) hw
                    · exact absurd (c178.symm.trans c330) (by decide)
                  · exact absurd (c178.symm.trans c278) (by decide)
                · exact absurd (c178.symm.trans c251) (by decide)
              · exact absurd (c178.symm.trans c205) (by decide)
            · refine lv_aload_n hx hb dX1_carryOut_191 rfl (lv_at hl 6 rfl) ?_
              refine r1_get X hw 9 (by decide) q207 rfl rfl dX1_carryOut_192 ?_
              refine lv_iload_n hx hb dX1_carryOut_195 rfl (lv_at hl 5 rfl) ?_
              refine lv_iload hx hb dX1_carryOut_196 (lv_at hl 2 rfl) ?_
              refine r1_ast X hw 9 (k := 9) rfl (co * 4 + d) rfl (show (co * 4 + d) < _ by first | assumption | (simp only [fl1]; omega)) dX1_carryOut_198 (fun H locs hw => ?_)
              refine lv_goto (tgt := 345) hx hb dX1_carryOut_199 (by decide) ?_
              exact hret _ _ _ _ _ dX1_carryOut_345 (by rw [ct, if_neg c92, if_neg c110, if_neg c141, if_neg c172, if_pos c178, cn_a, if_neg c188]) hw
      · refine lv_aload_n hx hb dX1_carryOut_144 rfl (lv_at hl 6 rfl) ?_
        refine r1_get X hw 11 (by decide) q209 rfl rfl dX1_carryOut_145 ?_
        refine lv_iload hx hb dX1_carryOut_148 (lv_at hl 1 rfl) ?_
        refine lv_aload_n hx hb dX1_carryOut_150 rfl (lv_at hl 6 rfl) ?_
        refine r1_get X hw 11 (by decide) q209 rfl rfl dX1_carryOut_151 ?_
        refine lv_iload hx hb dX1_carryOut_154 (lv_at hl 1 rfl) ?_
        refine r1_ald X hw 11 (k := 11) rfl ((co * 4 + d) * 4 + xa) rfl (show ((co * 4 + d) * 4 + xa) < _ by first | assumption | (simp only [fl1]; omega)) dX1_carryOut_156 ?_
        refine x_top (y := τ 11 ((co * 4 + d) * 4 + xa)) rfl ?_
        refine lv_aload_n hx hb dX1_carryOut_157 rfl (lv_at hl 6 rfl) ?_
        refine r1_get X hw 11 (by decide) q209 rfl rfl dX1_carryOut_158 ?_
        refine lv_iload hx hb dX1_carryOut_161 (lv_at hl 0 rfl) ?_
        refine r1_ald X hw 11 (k := 11) rfl ((co * 4 + d) * 4 + xb) rfl (show ((co * 4 + d) * 4 + xb) < _ by first | assumption | (simp only [fl1]; omega)) dX1_carryOut_163 ?_
        refine x_top (y := τ 11 ((co * 4 + d) * 4 + xb)) rfl ?_
        refine lv_isub hx hb dX1_carryOut_164 ?_
        refine r1_ast X hw 11 (k := 11) rfl ((co * 4 + d) * 4 + xa) rfl (show ((co * 4 + d) * 4 + xa) < _ by first | assumption | (simp only [fl1]; omega)) dX1_carryOut_165 (fun H locs hw => ?_)
        refine lv_goto (tgt := 345) hx hb dX1_carryOut_166 (by decide) ?_
        exact hret _ _ _ _ _ dX1_carryOut_345 (by rw [ct, if_neg c92, if_neg c110, if_pos c141, cn_a, cn_b]) hw
    · refine lv_aload_n hx hb dX1_carryOut_113 rfl (lv_at hl 6 rfl) ?_
      refine r1_get X hw 11 (by decide) q209 rfl rfl dX1_carryOut_114 ?_
      refine lv_iload hx hb dX1_carryOut_117 (lv_at hl 1 rfl) ?_
      refine lv_aload_n hx hb dX1_carryOut_119 rfl (lv_at hl 6 rfl) ?_
      refine r1_get X hw 11 (by decide) q209 rfl rfl dX1_carryOut_120 ?_
      refine lv_iload hx hb dX1_carryOut_123 (lv_at hl 1 rfl) ?_
      refine r1_ald X hw 11 (k := 11) rfl ((co * 4 + d) * 4 + xa) rfl (show ((co * 4 + d) * 4 + xa) < _ by first | assumption | (simp only [fl1]; omega)) dX1_carryOut_125 ?_
      refine x_top (y := τ 11 ((co * 4 + d) * 4 + xa)) rfl ?_
      refine lv_aload_n hx hb dX1_carryOut_126 rfl (lv_at hl 6 rfl) ?_
      refine r1_get X hw 11 (by decide) q209 rfl rfl dX1_carryOut_127 ?_
      refine lv_iload hx hb dX1_carryOut_130 (lv_at hl 0 rfl) ?_
      refine r1_ald X hw 11 (k := 11) rfl ((co * 4 + d) * 4 + xb) rfl (show ((co * 4 + d) * 4 + xb) < _ by first | assumption | (simp only [fl1]; omega)) dX1_carryOut_132 ?_
      refine x_top (y := τ 11 ((co * 4 + d) * 4 + xb)) rfl ?_
      refine lv_iadd hx hb dX1_carryOut_133 ?_
      refine r1_ast X hw 11 (k := 11) rfl ((co * 4 + d) * 4 + xa) rfl (show ((co * 4 + d) * 4 + xa) < _ by first | assumption | (simp only [fl1]; omega)) dX1_carryOut_134 (fun H locs hw => ?_)
      refine lv_goto (tgt := 345) hx hb dX1_carryOut_135 (by decide) ?_
      exact hret _ _ _ _ _ dX1_carryOut_345 (by rw [ct, if_neg c92, if_pos c110, cn_a, cn_b]) hw
  · refine lv_aload_n hx hb dX1_carryOut_95 rfl (lv_at hl 6 rfl) ?_
    refine r1_get X hw 11 (by decide) q209 rfl rfl dX1_carryOut_96 ?_
    refine lv_iload hx hb dX1_carryOut_99 (lv_at hl 1 rfl) ?_
    refine lv_iload hx hb dX1_carryOut_101 (lv_at hl 2 rfl) ?_
    refine r1_ast X hw 11 (k := 11) rfl ((co * 4 + d) * 4 + xa) rfl (show ((co * 4 + d) * 4 + xa) < _ by first | assumption | (simp only [fl1]; omega)) dX1_carryOut_103 (fun H locs hw => ?_)
    refine lv_goto (tgt := 345) hx hb dX1_carryOut_104 (by decide) ?_
    exact hret _ _ _ _ _ dX1_carryOut_345 (by rw [ct, if_pos c92, cn_a]) hw

set_option maxHeartbeats 4000000 in
theorem k1_emit (l : Launch) (τ : St) (f op rg cc : Int32) (hsz : szw τ) : Ci1 l yX1_emit cX1_emit 6 .int 0 0 [.int f, .int op, .int rg, .int cc] τ (fun r u => r = (e11 τ f op rg cc).1 ∧ u = (e11 τ f op rg cc).2) := by
  refine e1_i (by decide) rfl (fun _ => Nat.le_of_ble_eq_true rfl) ?_
  intro pG eN R sT mD aR bL mT cD Q dC dI A oA qA dA hR X hA hret ls hl hw
  have hx := X.1.1
  have hb := X.1.2.1
  have hl : lv_has ls 6 [(0, .ref oA), (1, .int f), (2, .int op), (3, .int rg), (4, .int cc)] := hl
  refine lv_iload_n hx hb dX1_emit_0 rfl (lv_at hl 1 rfl) ?_
  refine lv_if_lt (tgt := 19) hx hb dX1_emit_1 (by decide) (fun c1 => ?_) (fun c1 => ?_)
  · refine lv_iconst (v := (-1)) hx hb dX1_emit_19 (by decide) ?_
    exact hret _ _ _ _ _ _ dX1_emit_20 rfl ⟨by rw [e11, if_pos c1], by rw [e11, if_pos c1]⟩ hw
  · refine lv_iload_n hx hb dX1_emit_4 rfl (lv_at hl 1 rfl) ?_
    refine lv_iconst (v := 2) hx hb dX1_emit_5 (by decide) ?_
    refine lv_icmp_gt (tgt := 19) hx hb dX1_emit_6 (by decide) (fun c6 => ?_) (fun c6 => ?_)
    · refine lv_iconst (v := (-1)) hx hb dX1_emit_19 (by decide) ?_
      exact hret _ _ _ _ _ _ dX1_emit_20 rfl ⟨by rw [e11, if_neg c1, if_pos c6], by rw [e11, if_neg c1, if_pos c6]⟩ hw
    · refine lv_iload_n hx hb dX1_emit_9 rfl (lv_at hl 2 rfl) ?_
      refine lv_if_lt (tgt := 19) hx hb dX1_emit_10 (by decide) (fun c10 => ?_) (fun c10 => ?_)
      · refine lv_iconst (v := (-1)) hx hb dX1_emit_19 (by decide) ?_
        exact hret _ _ _ _ _ _ dX1_emit_20 rfl ⟨by rw [e11, if_neg c1, if_neg c6, if_pos c10], by rw [e11, if_neg c1, if_neg c6, if_pos c10]⟩ hw
      · refine lv_iload_n hx hb dX1_emit_13 rfl (lv_at hl 2 rfl) ?_
        refine lv_bipush (v := 7) hx hb dX1_emit_14 (by decide) ?_
        refine lv_icmp_le (tgt := 21) hx hb dX1_emit_16 (by decide) (fun c16 => ?_) (fun c16 => ?_)
        · refine lv_iconst (v := 0) hx hb dX1_emit_21 (by decide) ?_
          refine lv_istore (lv' := [(5, .int 0), (0, .ref oA), (1, .int f), (2, .int op), (3, .int rg), (4, .int cc)]) hx hb dX1_emit_22 hl (by decide) rfl (fun ls hl => ?_)
          refine lv_iload hx hb dX1_emit_24 (lv_at hl 0 rfl) ?_
          refine lv_iconst (v := 4) hx hb dX1_emit_26 (by decide) ?_
          refine lv_icmp_ge (tgt := 49) hx hb dX1_emit_27 (by decide) (fun c27 => ?_) (fun c27 => ?_)
          · exact absurd c27 (by decide)
          · refine lv_aload_n hx hb dX1_emit_30 rfl (lv_at hl 1 rfl) ?_
            refine r1_get X hw 4 (by decide) q202 rfl rfl dX1_emit_31 ?_
            refine lv_iload hx hb dX1_emit_34 (lv_at hl 0 rfl) ?_
            refine r1_ald X hw 4 (k := 4) rfl 0 rfl (by decide) dX1_emit_36 ?_
            refine lv_if_eq (tgt := 43) hx hb dX1_emit_37 (by decide) (fun c37 => ?_) (fun c37 => ?_)
            · refine lv_iinc (v := 1) (lv' := [(5, .int 1), (0, .ref oA), (1, .int f), (2, .int op), (3, .int rg), (4, .int cc)]) hx hb dX1_emit_43 hl (k := 0) rfl (by decide) (by decide) rfl (fun ls hl => ?_)
              refine lv_goto (tgt := 24) hx hb dX1_emit_46 (by decide) ?_
              refine lv_iload hx hb dX1_emit_24 (lv_at hl 0 rfl) ?_
              refine lv_iconst (v := 4) hx hb dX1_emit_26 (by decide) ?_
              refine lv_icmp_ge (tgt := 49) hx hb dX1_emit_27 (by decide) (fun c27_1 => ?_) (fun c27_1 => ?_)
              · exact absurd c27_1 (by decide)
              · refine lv_aload_n hx hb dX1_emit_30 rfl (lv_at hl 1 rfl) ?_
                refine r1_get X hw 4 (by decide) q202 rfl rfl dX1_emit_31 ?_
                refine lv_iload hx hb dX1_emit_34 (lv_at hl 0 rfl) ?_
                refine r1_ald X hw 4 (k := 4) rfl 1 rfl (by decide) dX1_emit_36 ?_
                refine lv_if_eq (tgt := 43) hx hb dX1_emit_37 (by decide) (fun c37_1 => ?_) (fun c37_1 => ?_)
                · refine lv_iinc (v := 2) (lv' := [(5, .int 2), (0, .ref oA), (1, .int f), (2, .int op), (3, .int rg), (4, .int cc)]) hx hb dX1_emit_43 hl (k := 0) rfl (by decide) (by decide) rfl (fun ls hl => ?_)
                  refine lv_goto (tgt := 24) hx hb dX1_emit_46 (by decide) ?_
                  refine lv_iload hx hb dX1_emit_24 (lv_at hl 0 rfl) ?_
                  refine lv_iconst (v := 4) hx hb dX1_emit_26 (by decide) ?_
                  refine lv_icmp_ge (tgt := 49) hx hb dX1_emit_27 (by decide) (fun c27_2 => ?_) (fun c27_2 => ?_)
                  · exact absurd c27_2 (by decide)
                  · refine lv_aload_n hx hb dX1_emit_30 rfl (lv_at hl 1 rfl) ?_
                    refine r1_get X hw 4 (by decide) q202 rfl rfl dX1_emit_31 ?_
                    refine lv_iload hx hb dX1_emit_34 (lv_at hl 0 rfl) ?_
                    refine r1_ald X hw 4 (k := 4) rfl 2 rfl (by decide) dX1_emit_36 ?_
                    refine lv_if_eq (tgt := 43) hx hb dX1_emit_37 (by decide) (fun c37_2 => ?_) (fun c37_2 => ?_)
                    · refine lv_iinc (v := 3) (lv' := [(5, .int 3), (0, .ref oA), (1, .int f), (2, .int op), (3, .int rg), (4, .int cc)]) hx hb dX1_emit_43 hl (k := 0) rfl (by decide) (by decide) rfl (fun ls hl => ?_)
                      refine lv_goto (tgt := 24) hx hb dX1_emit_46 (by decide) ?_
                      refine lv_iload hx hb dX1_emit_24 (lv_at hl 0 rfl) ?_
                      refine lv_iconst (v := 4) hx hb dX1_emit_26 (by decide) ?_
                      refine lv_icmp_ge (tgt := 49) hx hb dX1_emit_27 (by decide) (fun c27_3 => ?_) (fun c27_3 => ?_)
                      · exact absurd c27_3 (by decide)
                      · refine lv_aload_n hx hb dX1_emit_30 rfl (lv_at hl 1 rfl) ?_
                        refine r1_get X hw 4 (by decide) q202 rfl rfl dX1_emit_31 ?_
                        refine lv_iload hx hb dX1_emit_34 (lv_at hl 0 rfl) ?_
                        refine r1_ald X hw 4 (k := 4) rfl 3 rfl (by decide) dX1_emit_36 ?_
                        refine lv_if_eq (tgt := 43) hx hb dX1_emit_37 (by decide) (fun c37_3 => ?_) (fun c37_3 => ?_)
                        · refine lv_iinc (v := 4) (lv' := [(5, .int 4), (0, .ref oA), (1, .int f), (2, .int op), (3, .int rg), (4, .int cc)]) hx hb dX1_emit_43 hl (k := 0) rfl (by decide) (by decide) rfl (fun ls hl => ?_)
                          refine lv_goto (tgt := 24) hx hb dX1_emit_46 (by decide) ?_
                          refine lv_iload hx hb dX1_emit_24 (lv_at hl 0 rfl) ?_
                          refine lv_iconst (v := 4) hx hb dX1_emit_26 (by decide) ?_
                          refine lv_icmp_ge (tgt := 49) hx hb dX1_emit_27 (by decide) (fun c27_4 => ?_) (fun c27_4 => ?_)
                          · obtain ⟨k, hk, ef⟩ := f2_of c1 c6
                            have ek : cn f = k := by rw [ef]; exact cn_nI (by omega)
                            refine lv_aload_n hx hb dX1_emit_49 rfl (lv_at hl 1 rfl) ?_
                            refine r1_get X hw 0 (by decide) q198 rfl rfl dX1_emit_50 ?_
                            refine lv_iload_n hx hb dX1_emit_53 rfl (lv_at hl 2 rfl) ?_
                            refine r1_ald X hw 0 (k := 0) rfl k ef hk dX1_emit_54 ?_
                            refine lv_istore (lv' := [(5, .int (τ 0 k)), (0, .ref oA), (1, .int f), (2, .int op), (3, .int rg), (4, .int cc)]) hx hb dX1_emit_55 hl (by decide) rfl (fun ls hl => ?_)
                            refine lv_iload hx hb dX1_emit_57 (lv_at hl 0 rfl) ?_
                            refine lv_bipush (v := 8) hx hb dX1_emit_59 (by decide) ?_
                            refine lv_icmp_ne (tgt := 67) hx hb dX1_emit_61 (by decide) (fun c61 => ?_) (fun c61 => ?_)
                            · obtain ⟨n, hn, en⟩ := hsz k
                              have hn8 : n < 8 := Nat.lt_of_le_of_ne hn (fun h => c61 (by rw [en, h]; rfl))
                              have ej : cn (τ 0 k) = n := by rw [en]; exact cn_nI (by omega)
                              refine lv_aload_n hx hb dX1_emit_67 rfl (lv_at hl 1 rfl) ?_
                              refine r1_get X hw 1 (by decide) q199 rfl rfl dX1_emit_68 ?_
                              refine lv_iload_n hx hb dX1_emit_71 rfl (lv_at hl 2 rfl) ?_
                              refine lv_bipush (v := nI 8) hx hb dX1_emit_72 (by decide) ?_
                              refine lv_imul hx hb dX1_emit_74 ?_
                              refine x_top (y := nI (k * 8)) (by rw [ef, pk_mul]) ?_
                              refine lv_iload hx hb dX1_emit_75 (lv_at hl 0 rfl) ?_
                              refine lv_iadd hx hb dX1_emit_77 ?_
                              refine x_top (y := nI (k * 8 + n)) (by rw [en, nI_add]) ?_
                              refine lv_iload_n hx hb dX1_emit_78 rfl (lv_at hl 3 rfl) ?_
                              refine r1_ast X hw 1 (k := 1) rfl (k * 8 + n) rfl (show (k * 8 + n) < _ by first | assumption | (simp only [fl1]; omega)) dX1_emit_79 (fun H locs hw => ?_)
                              refine lv_aload_n hx hb dX1_emit_80 rfl (lv_at hl 1 rfl) ?_
                              refine r1_get X hw 2 (by decide) q200 rfl rfl dX1_emit_81 ?_
                              refine lv_iload_n hx hb dX1_emit_84 rfl (lv_at hl 2 rfl) ?_
                              refine lv_bipush (v := nI 8) hx hb dX1_emit_85 (by decide) ?_
                              refine lv_imul hx hb dX1_emit_87 ?_
                              refine x_top (y := nI (k * 8)) (by rw [ef, pk_mul]) ?_
                              refine lv_iload hx hb dX1_emit_88 (lv_at hl 0 rfl) ?_
                              refine lv_iadd hx hb dX1_emit_90 ?_
                              refine x_top (y := nI (k * 8 + n)) (by rw [en, nI_add]) ?_
                              refine lv_iload_n hx hb dX1_emit_91 rfl (lv_at hl 4 rfl) ?_
                              refine r1_ast X hw 2 (k := 2) rfl (k * 8 + n) rfl (show (k * 8 + n) < _ by first | assumption | (simp only [fl1]; omega)) dX1_emit_92 (fun H locs hw => ?_)
                              refine lv_aload_n hx hb dX1_emit_93 rfl (lv_at hl 1 rfl) ?_
                              refine r1_get X hw 3 (by decide) q201 rfl rfl dX1_emit_94 ?_
                              refine lv_iload_n hx hb dX1_emit_97 rfl (lv_at hl 2 rfl) ?_
                              refine lv_bipush (v := nI 8) hx hb dX1_emit_98 (by decide) ?_
                              refine lv_imul hx hb dX1_emit_100 ?_
                              refine x_top (y := nI (k * 8)) (by rw [ef, pk_mul]) ?_
                              refine lv_iload hx hb dX1_emit_101 (lv_at hl 0 rfl) ?_
                              refine lv_iadd hx hb dX1_emit_103 ?_
                              refine x_top (y := nI (k * 8 + n)) (by rw [en, nI_add]) ?_
                              refine lv_iload hx hb dX1_emit_104 (lv_at hl 5 rfl) ?_
                              refine r1_ast X hw 3 (k := 3) rfl (k * 8 + n) rfl (show (k * 8 + n) < _ by first | assumption | (simp only [fl1]; omega)) dX1_emit_106 (fun H locs hw => ?_)
                              refine lv_aload_n hx hb dX1_emit_107 rfl (lv_at hl 1 rfl) ?_
                              refine r1_get X hw 0 (by decide) q198 rfl rfl dX1_emit_108 ?_
                              refine lv_iload_n hx hb dX1_emit_111 rfl (lv_at hl 2 rfl) ?_
                              refine lv_iload hx hb dX1_emit_112 (lv_at hl 0 rfl) ?_
                              refine lv_iconst (v := 1) hx hb dX1_emit_114 (by decide) ?_
                              refine lv_iadd hx hb dX1_emit_115 ?_
                              refine r1_ast X hw 0 (k := 0) rfl k ef hk dX1_emit_116 (fun H locs hw => ?_)
                              refine lv_iload hx hb dX1_emit_117 (lv_at hl 0 rfl) ?_
                              exact hret _ _ _ _ _ _ dX1_emit_119 rfl ⟨by rw [e11, if_neg c1, if_neg c6, if_neg c10, if_pos c16, if_pos ⟨c37, c37_1, c37_2, c37_3⟩, e12, ek, if_neg c61], by rw [e11, if_neg c1, if_neg c6, if_neg c10, if_pos c16, if_pos ⟨c37, c37_1, c37_2, c37_3⟩, e12, ek, if_neg c61, ej]⟩ hw
                            · refine lv_bipush (v := (-2)) hx hb dX1_emit_64 (by decide) ?_
                              exact hret _ _ _ _ _ _ dX1_emit_66 rfl ⟨by rw [e11, if_neg c1, if_neg c6, if_neg c10, if_pos c16, if_pos ⟨c37, c37_1, c37_2, c37_3⟩, e12, ek, if_pos c61], by rw [e11, if_neg c1, if_neg c6, if_neg c10, if_pos c16, if_pos ⟨c37, c37_1, c37_2, c37_3⟩, e12, ek, if_pos c61]⟩ hw
                          · exact absurd (by decide) c27_4
                        · refine lv_bipush (v := (-3)) hx hb dX1_emit_40 (by decide) ?_
                          exact hret _ _ _ _ _ _ dX1_emit_42 rfl ⟨by rw [e11, if_neg c1, if_neg c6, if_neg c10, if_pos c16, if_neg (fun h => c37_3 h.2.2.2)], by rw [e11, if_neg c1, if_neg c6, if_neg c10, if_pos c16, if_neg (fun h => c37_3 h.2.2.2)]⟩ hw
                    · refine lv_bipush (v := (-3)) hx hb dX1_emit_40 (by decide) ?_
                      exact hret _ _ _ _ _ _ dX1_emit_42 rfl ⟨by rw [e11, if_neg c1, if_neg c6, if_neg c10, if_pos c16, if_neg (fun h => c37_2 h.2.2.1)], by rw [e11, if_neg c1, if_neg c6, if_neg c10, if_pos c16, if_neg (fun h => c37_2 h.2.2.1)]⟩ hw
                · refine lv_bipush (v := (-3)) hx hb dX1_emit_40 (by decide) ?_
                  exact hret _ _ _ _ _ _ dX1_emit_42 rfl ⟨by rw [e11, if_neg c1, if_neg c6, if_neg c10, if_pos c16, if_neg (fun h => c37_1 h.2.1)], by rw [e11, if_neg c1, if_neg c6, if_neg c10, if_pos c16, if_neg (fun h => c37_1 h.2.1)]⟩ hw
            · refine lv_bipush (v := (-3)) hx hb dX1_emit_40 (by decide) ?_
              exact hret _ _ _ _ _ _ dX1_emit_42 rfl ⟨by rw [e11, if_neg c1, if_neg c6, if_neg c10, if_pos c16, if_neg (fun h => c37 h.1)], by rw [e11, if_neg c1, if_neg c6, if_neg c10, if_pos c16, if_neg (fun h => c37 h.1)]⟩ hw
        · refine lv_iconst (v := (-1)) hx hb dX1_emit_19 (by decide) ?_
          exact hret _ _ _ _ _ _ dX1_emit_20 rfl ⟨by rw [e11, if_neg c1, if_neg c6, if_neg c10, if_neg c16], by rw [e11, if_neg c1, if_neg c6, if_neg c10, if_neg c16]⟩ hw

set_option maxHeartbeats 4000000 in
theorem k1_copy (l : Launch) (τ : St) (x y : Int32)  : Ci1 l yX1_copy cX1_copy 4 .int 1 21 [.int x, .int y] τ (fun r u => r = (cp1 τ x y).1 ∧ u = (cp1 τ x y).2) := by
  refine e1_i (by decide) rfl (fun _ => Nat.le_of_ble_eq_true rfl) ?_
  intro pG eN R sT mD aR bL mT cD Q dC dI A oA qA dA hR X hA hret ls hl hw
  have hx := X.1.1
  have hb := X.1.2.1
  have hl : lv_has ls 4 [(0, .ref oA), (1, .int x), (2, .int y)] := hl
  refine lv_aload_n hx hb dX1_copy_0 rfl (lv_at hl 0 rfl) ?_
  refine lv_iload_n hx hb dX1_copy_1 rfl (lv_at hl 1 rfl) ?_
  refine r1_calli (rest := []) 1 X hA hw (k1_badCo l τ x) (lw_V q243 q245 qs15 q23 q246) (by decide +kernel) rfl (by rw [hR]; exact ⟨Nat.le_of_ble_eq_true rfl, Nat.le_of_ble_eq_true rfl⟩) hl.1 rfl (Nat.le_of_ble_eq_true rfl) dX1_copy_2 ⟨Nat.zero_le _, Nat.zero_le _⟩ (fun r u H locs hu hw _ _ => ?_)
  obtain ⟨er, hu⟩ := hu
  rw [hu] at hw
  rw [er]
  refine lv_if_ne (tgt := 16) hx hb dX1_copy_5 (by decide) (fun c5 => ?_) (fun c5 => ?_)
  · refine lv_iconst (v := (-1)) hx hb dX1_copy_16 (by decide) ?_
    exact hret _ _ _ _ _ _ dX1_copy_17 rfl ⟨by rw [cp1, if_neg c5], by rw [cp1, if_neg c5]⟩ hw
  · obtain ⟨k, hk, rfl⟩ := bd_ok c5
    refine lv_aload_n hx hb dX1_copy_8 rfl (lv_at hl 0 rfl) ?_
    refine lv_iload_n hx hb dX1_copy_9 rfl (lv_at hl 2 rfl) ?_
    refine r1_calli (rest := []) 1 X hA hw (k1_badCo l τ y) (lw_V q243 q245 qs15 q23 q246) (by decide +kernel) rfl (by rw [hR]; exact ⟨Nat.le_of_ble_eq_true rfl, Nat.le_of_ble_eq_true rfl⟩) hl.1 rfl (Nat.le_of_ble_eq_true rfl) dX1_copy_10 ⟨Nat.zero_le _, Nat.zero_le _⟩ (fun r u H locs hu hw _ _ => ?_)
    obtain ⟨er, hu⟩ := hu
    rw [hu] at hw
    rw [er]
    refine lv_if_eq (tgt := 18) hx hb dX1_copy_13 (by decide) (fun c13 => ?_) (fun c13 => ?_)
    · obtain ⟨j, hj, rfl⟩ := bd_ok c13
      refine lv_aload_n hx hb dX1_copy_18 rfl (lv_at hl 0 rfl) ?_
      refine r1_get X hw 4 (by decide) q202 rfl rfl dX1_copy_19 ?_
      refine lv_iload_n hx hb dX1_copy_22 rfl (lv_at hl 2 rfl) ?_
      refine lv_aload_n hx hb dX1_copy_23 rfl (lv_at hl 0 rfl) ?_
      refine r1_get X hw 4 (by decide) q202 rfl rfl dX1_copy_24 ?_
      refine lv_iload_n hx hb dX1_copy_27 rfl (lv_at hl 1 rfl) ?_
      refine r1_ald X hw 4 (k := 4) rfl k rfl (show k < _ by first | assumption | (simp only [fl1]; omega)) dX1_copy_28 ?_
      refine x_top (y := τ 4 k) rfl ?_
      refine r1_ast X hw 4 (k := 4) rfl j rfl (show j < _ by first | assumption | (simp only [fl1]; omega)) dX1_copy_29 (fun H locs hw => ?_)
      refine lv_aload_n hx hb dX1_copy_30 rfl (lv_at hl 0 rfl) ?_
      refine r1_get X hw 5 (by decide) q203 rfl rfl dX1_copy_31 ?_
      refine lv_iload_n hx hb dX1_copy_34 rfl (lv_at hl 2 rfl) ?_
      refine lv_aload_n hx hb dX1_copy_35 rfl (lv_at hl 0 rfl) ?_
      refine r1_get X hw 5 (by decide) q203 rfl rfl dX1_copy_36 ?_
      refine lv_iload_n hx hb dX1_copy_39 rfl (lv_at hl 1 rfl) ?_
      refine r1_ald X hw 5 (k := 5) rfl k rfl (show k < _ by first | assumption | (simp only [fl1]; omega)) dX1_copy_40 ?_
      refine x_top (y := τ 5 k) rfl ?_
      refine r1_ast X hw 5 (k := 5) rfl j rfl (show j < _ by first | assumption | (simp only [fl1]; omega)) dX1_copy_41 (fun H locs hw => ?_)
      refine lv_aload_n hx hb dX1_copy_42 rfl (lv_at hl 0 rfl) ?_
      refine r1_get X hw 6 (by decide) q204 rfl rfl dX1_copy_43 ?_
      refine lv_iload_n hx hb dX1_copy_46 rfl (lv_at hl 2 rfl) ?_
      refine lv_aload_n hx hb dX1_copy_47 rfl (lv_at hl 0 rfl) ?_
      refine r1_get X hw 6 (by decide) q204 rfl rfl dX1_copy_48 ?_
      refine lv_iload_n hx hb dX1_copy_51 rfl (lv_at hl 1 rfl) ?_
      refine r1_ald X hw 6 (k := 6) rfl k rfl (show k < _ by first | assumption | (simp only [fl1]; omega)) dX1_copy_52 ?_
      refine x_top (y := τ 6 k) rfl ?_
      refine r1_ast X hw 6 (k := 6) rfl j rfl (show j < _ by first | assumption | (simp only [fl1]; omega)) dX1_copy_53 (fun H locs hw => ?_)
      refine lv_aload_n hx hb dX1_copy_54 rfl (lv_at hl 0 rfl) ?_
      refine r1_get X hw 7 (by decide) q205 rfl rfl dX1_copy_55 ?_
      refine lv_iload_n hx hb dX1_copy_58 rfl (lv_at hl 2 rfl) ?_
      refine lv_aload_n hx hb dX1_copy_59 rfl (lv_at hl 0 rfl) ?_
      refine r1_get X hw 7 (by decide) q205 rfl rfl dX1_copy_60 ?_
      refine lv_iload_n hx hb dX1_copy_63 rfl (lv_at hl 1 rfl) ?_
      refine r1_ald X hw 7 (k := 7) rfl k rfl (show k < _ by first | assumption | (simp only [fl1]; omega)) dX1_copy_64 ?_
      refine x_top (y := τ 7 k) rfl ?_
      refine r1_ast X hw 7 (k := 7) rfl j rfl (show j < _ by first | assumption | (simp only [fl1]; omega)) dX1_copy_65 (fun H locs hw => ?_)
      refine lv_iconst (v := 0) hx hb dX1_copy_66 (by decide) ?_
      refine lv_istore_n (lv' := [(3, .int 0), (0, .ref oA), (1, .int (nI k)), (2, .int (nI j))]) hx hb dX1_copy_67 rfl hl (by decide) rfl (fun ls hl => ?_)
      have hw : wd1 dC dI A sT.heap oA qA dA (c1C τ k j) H locs := hw
      have loop1 : ∀ (n : Nat) (r : Nat) (H : Heap) (locs : List Loc) (ls : Array Slot), r + n = 4 → lv_has ls 4 [(0, .ref oA), (1, .int (nI k)), (2, .int (nI j)), (3, .int (nI r))] → wd1 dC dI A sT.heap oA qA dA (c1A (c1C τ k j) k j r) H locs → W pG l eN R sT mD aR bL mT cD H locs 0 0 Q (F0 mD 68 ls []) := by
        intro n
        induction n with
        | zero =>
          intro r H locs ls hk hl hw
          obtain rfl : r = 4 := by omega
          refine lv_iload_n hx hb dX1_copy_68 rfl (lv_at hl 3 rfl) ?_
          refine lv_iconst (v := nI 4) hx hb dX1_copy_69 (by decide) ?_
          refine lv_icmp_ge (tgt := 139) hx hb dX1_copy_70 (by decide) (fun c70 => ?_) (fun c70 => ?_)
          · refine lv_iconst (v := 0) hx hb dX1_copy_139 (by decide) ?_
            refine lv_istore_n (lv' := [(3, .int 0), (0, .ref oA), (1, .int (nI k)), (2, .int (nI j))]) hx hb dX1_copy_140 rfl hl (by decide) rfl (fun ls hl => ?_)
            have loop2 : ∀ (n : Nat) (r : Nat) (H : Heap) (locs : List Loc) (ls : Array Slot), r + n = 16 → lv_has ls 4 [(0, .ref oA), (1, .int (nI k)), (2, .int (nI j)), (3, .int (nI r))] → wd1 dC dI A sT.heap oA qA dA (c1B (c1A (c1C τ k j) k j 4) k j r) H locs → W pG l eN R sT mD aR bL mT cD H locs 0 0 Q (F0 mD 141 ls []) := by
              intro n
              induction n with
              | zero =>
                intro r H locs ls hk hl hw
                obtain rfl : r = 16 := by omega
                refine lv_iload_n hx hb dX1_copy_141 rfl (lv_at hl 3 rfl) ?_
                refine lv_bipush (v := nI 16) hx hb dX1_copy_142 (by decide) ?_
                refine lv_icmp_ge (tgt := 175) hx hb dX1_copy_144 (by decide) (fun c144 => ?_) (fun c144 => ?_)
                · have hw : wd1 dC dI A sT.heap oA qA dA (c1D τ k j) H locs := hw
                  refine lv_aload_n hx hb dX1_copy_175 rfl (lv_at hl 0 rfl) ?_
                  refine r1_get X hw 4 (by decide) q202 rfl rfl dX1_copy_176 ?_
                  refine lv_iload_n hx hb dX1_copy_179 rfl (lv_at hl 2 rfl) ?_
                  refine r1_ald X hw 4 (k := 4) rfl j rfl (show j < _ by first | assumption | (simp only [fl1]; omega)) dX1_copy_180 ?_
                  refine x_top (y := τ 4 k) (c1D_4 _ _ _) ?_
                  exact hret _ _ _ _ _ _ dX1_copy_181 rfl ⟨by rw [cp1, if_pos c5, if_pos c13, cn_nI (by omega)], by rw [cp1, if_pos c5, if_pos c13, cn_nI (by omega), cn_nI (by omega)]⟩ hw
                · exact absurd (nI_le (by omega) (by decide)) c144
              | succ n ih2 =>
                intro r H locs ls hk hl hw
                refine lv_iload_n hx hb dX1_copy_141 rfl (lv_at hl 3 rfl) ?_
                refine lv_bipush (v := nI 16) hx hb dX1_copy_142 (by decide) ?_
                refine lv_icmp_ge (tgt := 175) hx hb dX1_copy_144 (by decide) (fun c144 => ?_) (fun c144 => ?_)
                · exact absurd c144 (nI_ge (by omega) (by decide))
                · refine lv_aload_n hx hb dX1_copy_147 rfl (lv_at hl 0 rfl) ?_
                  refine r1_get X hw 11 (by decide) q209 rfl rfl dX1_copy_148 ?_
                  refine lv_iload_n hx hb dX1_copy_151 rfl (lv_at hl 2 rfl) ?_
                  refine lv_bipush (v := nI 16) hx hb dX1_copy_152 (by decide) ?_
                  refine lv_imul hx hb dX1_copy_154 ?_
                  refine x_top (y := nI (j * 16)) (pk_mul _ _) ?_
                  refine lv_iload_n hx hb dX1_copy_155 rfl (lv_at hl 3 rfl) ?_
                  refine lv_iadd hx hb dX1_copy_156 ?_
                  refine x_top (y := nI (j * 16 + r)) (nI_add _ _) ?_
                  refine lv_aload_n hx hb dX1_copy_157 rfl (lv_at hl 0 rfl) ?_
                  refine r1_get X hw 11 (by decide) q209 rfl rfl dX1_copy_158 ?_
                  refine lv_iload_n hx hb dX1_copy_161 rfl (lv_at hl 1 rfl) ?_
                  refine lv_bipush (v := nI 16) hx hb dX1_copy_162 (by decide) ?_
                  refine lv_imul hx hb dX1_copy_164 ?_
                  refine x_top (y := nI (k * 16)) (pk_mul _ _) ?_
                  refine lv_iload_n hx hb dX1_copy_165 rfl (lv_at hl 3 rfl) ?_
                  refine lv_iadd hx hb dX1_copy_166 ?_
                  refine x_top (y := nI (k * 16 + r)) (nI_add _ _) ?_
                  refine r1_ald X hw 11 (k := 11) rfl (k * 16 + r) rfl (show (k * 16 + r) < _ by first | assumption | (simp only [fl1]; omega)) dX1_copy_167 ?_
                  refine r1_ast X hw 11 (k := 11) rfl (j * 16 + r) rfl (show (j * 16 + r) < _ by first | assumption | (simp only [fl1]; omega)) dX1_copy_168 (fun H locs hw => ?_)
                  refine lv_iinc (v := nI (r + 1)) (lv' := [(3, .int (nI (r + 1))), (0, .ref oA), (1, .int (nI k)), (2, .int (nI j))]) hx hb dX1_copy_169 hl (k := 3) rfl (nI_1 _) (by decide) rfl (fun ls hl => ?_)
                  refine lv_goto (tgt := 141) hx hb dX1_copy_172 (by decide) ?_
                  exact ih2 (r + 1) _ _ _ (by omega) (lv_sub hl [1, 2, 3, 0] rfl) hw
            exact loop2 16 0 _ _ _ rfl (lv_sub hl [1, 2, 3, 0] rfl) hw
          · exact absurd (nI_le (by omega) (by decide)) c70
        | succ n ih =>
          intro r H locs ls hk hl hw
          refine lv_iload_n hx hb dX1_copy_68 rfl (lv_at hl 3 rfl) ?_
          refine lv_iconst (v := nI 4) hx hb dX1_copy_69 (by decide) ?_
          refine lv_icmp_ge (tgt := 139) hx hb dX1_copy_70 (by decide) (fun c70 => ?_) (fun c70 => ?_)
          · exact absurd c70 (nI_ge (by omega) (by decide))
          · refine lv_aload_n hx hb dX1_copy_73 rfl (lv_at hl 0 rfl) ?_
            refine r1_get X hw 8 (by decide) q206 rfl rfl dX1_copy_74 ?_
            refine lv_iload_n hx hb dX1_copy_77 rfl (lv_at hl 2 rfl) ?_
            refine lv_iconst (v := nI 4) hx hb dX1_copy_78 (by decide) ?_
            refine lv_imul hx hb dX1_copy_79 ?_
            refine x_top (y := nI (j * 4)) (pk_mul _ _) ?_
            refine lv_iload_n hx hb dX1_copy_80 rfl (lv_at hl 3 rfl) ?_
            refine lv_iadd hx hb dX1_copy_81 ?_
            refine x_top (y := nI (j * 4 + r)) (nI_add _ _) ?_
            refine lv_aload_n hx hb dX1_copy_82 rfl (lv_at hl 0 rfl) ?_
            refine r1_get X hw 8 (by decide) q206 rfl rfl dX1_copy_83 ?_
            refine lv_iload_n hx hb dX1_copy_86 rfl (lv_at hl 1 rfl) ?_
            refine lv_iconst (v := nI 4) hx hb dX1_copy_87 (by decide) ?_
            refine lv_imul hx hb dX1_copy_88 ?_
            refine x_top (y := nI (k * 4)) (pk_mul _ _) ?_
            refine lv_iload_n hx hb dX1_copy_89 rfl (lv_at hl 3 rfl) ?_
            refine lv_iadd hx hb dX1_copy_90 ?_
            refine x_top (y := nI (k * 4 + r)) (nI_add _ _) ?_
            refine r1_ald X hw 8 (k := 8) rfl (k * 4 + r) rfl (show (k * 4 + r) < _ by first | assumption | (simp only [fl1]; omega)) dX1_copy_91 ?_
            refine r1_ast X hw 8 (k := 8) rfl (j * 4 + r) rfl (show (j * 4 + r) < _ by first | assumption | (simp only [fl1]; omega)) dX1_copy_92 (fun H locs hw => ?_)
            refine lv_aload_n hx hb dX1_copy_93 rfl (lv_at hl 0 rfl) ?_
            refine r1_get X hw 9 (by decide) q207 rfl rfl dX1_copy_94 ?_
            refine lv_iload_n hx hb dX1_copy_97 rfl (lv_at hl 2 rfl) ?_
            refine lv_iconst (v := nI 4) hx hb dX1_copy_98 (by decide) ?_
            refine lv_imul hx hb dX1_copy_99 ?_
            refine x_top (y := nI (j * 4)) (pk_mul _ _) ?_
            refine lv_iload_n hx hb dX1_copy_100 rfl (lv_at hl 3 rfl) ?_
            refine lv_iadd hx hb dX1_copy_101 ?_
            refine x_top (y := nI (j * 4 + r)) (nI_add _ _) ?_
            refine lv_aload_n hx hb dX1_copy_102 rfl (lv_at hl 0 rfl) ?_
            refine r1_get X hw 9 (by decide) q207 rfl rfl dX1_copy_103 ?_
            refine lv_iload_n hx hb dX1_copy_106 rfl (lv_at hl 1 rfl) ?_
            refine lv_iconst (v := nI 4) hx hb dX1_copy_107 (by decide) ?_
            refine lv_imul hx hb dX1_copy_108 ?_
            refine x_top (y := nI (k * 4)) (pk_mul _ _) ?_
            refine lv_iload_n hx hb dX1_copy_109 rfl (lv_at hl 3 rfl) ?_
            refine lv_iadd hx hb dX1_copy_110 ?_
            refine x_top (y := nI (k * 4 + r)) (nI_add _ _) ?_
            refine r1_ald X hw 9 (k := 9) rfl (k * 4 + r) rfl (show (k * 4 + r) < _ by first | assumption | (simp only [fl1]; omega)) dX1_copy_111 ?_
            refine x_top (y := c1A (c1C τ k j) k j r 9 (k * 4 + r)) rfl ?_
            refine r1_ast X hw 9 (k := 9) rfl (j * 4 + r) rfl (show (j * 4 + r) < _ by first | assumption | (simp only [fl1]; omega)) dX1_copy_112 (fun H locs hw => ?_)
            refine lv_aload_n hx hb dX1_copy_113 rfl (lv_at hl 0 rfl) ?_
            refine r1_get X hw 10 (by decide) q208 rfl rfl dX1_copy_114 ?_
            refine lv_iload_n hx hb dX1_copy_117 rfl (lv_at hl 2 rfl) ?_
            refine lv_iconst (v := nI 4) hx hb dX1_copy_118 (by decide) ?_
            refine lv_imul hx hb dX1_copy_119 ?_
            refine x_top (y := nI (j * 4)) (pk_mul _ _) ?_
            refine lv_iload_n hx hb dX1_copy_120 rfl (lv_at hl 3 rfl) ?_
            refine lv_iadd hx hb dX1_copy_121 ?_
            refine x_top (y := nI (j * 4 + r)) (nI_add _ _) ?_
            refine lv_aload_n hx hb dX1_copy_122 rfl (lv_at hl 0 rfl) ?_
            refine r1_get X hw 10 (by decide) q208 rfl rfl dX1_copy_123 ?_
            refine lv_iload_n hx hb dX1_copy_126 rfl (lv_at hl 1 rfl) ?_
            refine lv_iconst (v := nI 4) hx hb dX1_copy_127 (by decide) ?_
            refine lv_imul hx hb dX1_copy_128 ?_
            refine x_top (y := nI (k * 4)) (pk_mul _ _) ?_
            refine lv_iload_n hx hb dX1_copy_129 rfl (lv_at hl 3 rfl) ?_
            refine lv_iadd hx hb dX1_copy_130 ?_
            refine x_top (y := nI (k * 4 + r)) (nI_add _ _) ?_
            refine r1_ald X hw 10 (k := 10) rfl (k * 4 + r) rfl (show (k * 4 + r) < _ by first | assumption | (simp only [fl1]; omega)) dX1_copy_131 ?_
            refine x_top (y := c1A (c1C τ k j) k j r 10 (k * 4 + r)) rfl ?_
            refine r1_ast X hw 10 (k := 10) rfl (j * 4 + r) rfl (show (j * 4 + r) < _ by first | assumption | (simp only [fl1]; omega)) dX1_copy_132 (fun H locs hw => ?_)
            refine lv_iinc (v := nI (r + 1)) (lv' := [(3, .int (nI (r + 1))), (0, .ref oA), (1, .int (nI k)), (2, .int (nI j))]) hx hb dX1_copy_133 hl (k := 3) rfl (nI_1 _) (by decide) rfl (fun ls hl => ?_)
            refine lv_goto (tgt := 68) hx hb dX1_copy_136 (by decide) ?_
            exact ih (r + 1) _ _ _ (by omega) (lv_sub hl [1, 2, 3, 0] rfl) hw
      exact loop1 4 0 _ _ _ rfl (lv_sub hl [1, 2, 3, 0] rfl) hw
    · refine lv_iconst (v := (-1)) hx hb dX1_copy_16 (by decide) ?_
      exact hret _ _ _ _ _ _ dX1_copy_17 rfl ⟨by rw [cp1, if_pos c5, if_neg c13], by rw [cp1, if_pos c5, if_neg c13]⟩ hw
end
section
set_option maxRecDepth 100000

theorem d_known {dC : Nat → ClassId} {dI : Nat → Nat → Nat} {s : State} {args : Array Value} (hK : va_K (dC, dI) vwCl [] s) (ha : (Cond.arrayClass .int).before args s = true) : ∃ d, va_K (dC, dI) vwCl [(d, .int)] s := by
  obtain ⟨cA, kA, comp, hf, hk, hkind⟩ := Cond.arrayClass_spec ha
  refine ⟨cA, hK.1, fun k q hq => ?_⟩
  match k, hq with
  | 0, hq =>
    cases hq
    exact ⟨fun n z => ⟨fun k h => (by cases h), kA, hk, comp, hkind⟩, hf⟩
  | k + 1, hq => simp at hq
section RN
variable {p : Program} {l : Launch} {e : Env} {R : Room} {s : State} {m : MethodId} {args : Array Value} {below : List Frame} {meth : Method} {c : Code} {H : Heap} {locs : List Loc} {cells slots : Nat} {Q : State → Prop}
variable {cc : ByteArray} {pc nL : Nat} {ls : Array Slot} {rest : List Value} {dC : Nat → ClassId} {dI : Nat → Nat → Nat} {A : Nat → Prop} {H0 : Heap} {d : ClassId} {ws : va_W} {own : String}
theorem ri_newa (X : cx own p s m args c cc nL dC dI d) (hP : va_P (dC, dI) vwCl ws H) (hD : va_D A ws) (hS : va_S A H0 H locs) (hA : ∀ q, H0.size ≤ q → A q) {n : Int32} {N : Nat} (hn : ¬ n < 0) (hN : n.toNatClampNeg = N) (hb : N * componentBytes .int ≤ 536870912) (hcells : cells + 1 ≤ R.cells) (hslots : slots + N ≤ R.slots) (hdg : decode cc pc = .ok (.newarray .int, 2))
    (kk : ∀ (q : Nat) (H1 : Heap), va_P (dC, dI) vwCl (ws ++ [(q, .inl (d, N, .inl (fun _ => 0)))]) H1 → va_D A (ws ++ [(q, .inl (d, N, .inl (fun _ => 0)))]) → va_S A H0 H1 locs → W p l e R s m args below meth c H1 locs (cells + 1) (slots + N) Q (F0 m (pc + 2) ls (.ref q :: rest))) : W p l e R s m args below meth c H locs cells slots Q (F0 m pc ls (.int n :: rest)) := by
  refine va_newa (atype := .int) X.1.1 X.1.2.1 (X.1.2.2.2.2 _ q84) (ty := .int) rfl X.2 hP hD hS hA (a0 := (N, .inl (fun _ => 0))) (fun cA => rfl) hn hN hb hcells hslots hdg (fun q cA H1 hK1 hP1 hD1 hS1 => ?_)
  have h1 := (hK1.2 1 (cA, .int) rfl).2
  have h0 := (hK1.2 0 (d, .int) rfl).2
  obtain rfl : cA = d := Option.some.inj (h1.symm.trans h0)
  exact kk q H1 hP1 hD1 hS1
end RN

def dfl0 : List Value := [.null, .null, .null, .null, .null, .int 0, .null, .null, .null, .null, .null, .null, .null, .null, .int 0, .int 0, .null]
set_option maxHeartbeats 8000000 in
/-- the constructor: all arrays new, all 0 -/
theorem k0_init (l : Launch) (dC : Nat → ClassId) (dI : Nat → Nat → Nat) (a : Nat) (d : ClassId) (sz : Nat) : Met l yX0_init (ws_ yX0_init cX0_init 1 none) ({ frames := 1, cells := 14, slots := 242, locals := 12 }) (va_Pc [.ref a] (fun U => U.heap.size = sz ∧ va_P (dC, dI) vwCl [(a, .inr (0, dfl0))] U.heap ∧ va_K (dC, dI) vwCl [(d, .int)] U ∧ va_D (fun _ => True) [(a, .inr (0, dfl0))])) (va_Qv (fun _ : Nat → Nat => True) (fun q t => Bd0 dC dI (va_A [(a, .inr (0, dfl0))] sz) a q d (fun _ _ => 0) t) (va_A [(a, .inr (0, dfl0))] sz)) 14 242 (va_A [(a, .inr (0, dfl0))] sz) := by
  refine Met.ofW (cc := cX0_init) (maxL := 1) (ret := none) (by decide) rfl ?_
  intro p e s m args below meth c s₁ B hml hv
  obtain ⟨rfl, hsz, hP, hK, hD0⟩ := hv
  have hx := B.exec
  have hb := B.bytes
  have hr := B.returns
  have hts := atoms_spec (ws := ws_ yX0_init cX0_init 1 none) B.pre
  have hts : ∀ w ∈ lw_all, w.before _ s = true := fun w h => hts w (List.mem_cons_of_mem _ h)
  have hown : s.vm.findClass RX0 = some m.cls := findClass_of_methodNamed B.named
  have hlocks := B.notSynchronized
  have hin : meth.name = "<init>" := (name_of_methodNamed B.named B.method).1
  subst hsz
  have hD := hD0.self (sz := s.heap.size)
  generalize hAe : va_A [(a, .inr (0, dfl0))] s.heap.size = A at hD ⊢
  have hA : ∀ q : Nat, s.heap.size ≤ q → A q := fun q h => by rw [← hAe]; exact Or.inr h
  have hS : va_S A s.heap s.heap [] := va_S.rf
  have X : cx RX0 p s m ([.ref a] : List Value).toArray c cX0_init 1 dC dI d := ⟨⟨hx, hb, hml, hown, hts⟩, hK⟩
  have hl := lv_entry ([.ref a]) (n := 1) (Nat.le_of_ble_eq_true rfl)
  rw [lg_entry_eq]
  generalize (lg_sl ([.ref a]) ++ List.replicate (1 - (lg_sl ([.ref a])).length) Slot.unset).toArray = ls at hl ⊢
  have hl : lv_has ls 1 [(0, .ref a)] := hl
  refine lv_aload_n hx hb dX0_init_0 rfl (lv_at hl 0 rfl) ?_
  refine W.objInit hx hb hown (hts _ q29) (hts _ q30) (hts _ q31) rfl (by rw [hml]; exact hl.1) rfl dX0_init_1 (Nat.le_of_ble_eq_true rfl) (Nat.le_of_ble_eq_true rfl) ?_
  refine W.eq (g2 := F0 m 4 ls []) rfl ?_
  have hP : va_P (dC, dI) vwCl [(a, .inr (0, [.null, .null, .null, .null, .null, .int 0, .null, .null, .null, .null, .null, .null, .null, .null, .int 0, .int 0, .null]))] s.heap := hP
  have hD : va_D A [(a, .inr (0, [.null, .null, .null, .null, .null, .int 0, .null, .null, .null, .null, .null, .null, .null, .null, .int 0, .int 0, .null]))] := hD
  refine lv_aload_n hx hb dX0_init_4 rfl (lv_at hl 0 rfl) ?_
  refine lv_iconst (v := 3) hx hb dX0_init_5 (by decide) ?_
  refine ri_newa X hP hD hS hA (N := 3) (by decide) (by decide) (by decide) (Nat.le_of_ble_eq_true rfl) (Nat.le_of_ble_eq_true rfl) dX0_init_6 (fun z0 H hP hD hS => ?_)
  refine W.widen (k := 1) (n := 3) (Nat.le_of_ble_eq_true rfl) (Nat.le_of_ble_eq_true rfl) ?_
  refine va_putF (D := (dC, dI)) (ci := 0) (v := .ref z0) (ty := .array .int) (C := RX0) (T := TX0) (N := 17) hx hb hts in_X0 tyX0 tyX0_ok nmX0 hown hK hP hD hS 0 rfl rfl 0 (by decide) (hts _ q32) (fun _ h9 => h9) rfl hin rfl (by decide +kernel) rfl rfl (Nat.le_of_ble_eq_true rfl) dX0_init_8 (fun H locs hP hD hS => ?_)
  have hP : va_P (dC, dI) vwCl [(a, .inr (0, [.ref z0, .null, .null, .null, .null, .int 0, .null, .null, .null, .null, .null, .null, .null, .null, .int 0, .int 0, .null])), (z0, .inl (d, 3, .inl (fun _ => 0)))] H := hP
  have hD : va_D A [(a, .inr (0, [.ref z0, .null, .null, .null, .null, .int 0, .null, .null, .null, .null, .null, .null, .null, .null, .int 0, .int 0, .null])), (z0, .inl (d, 3, .inl (fun _ => 0)))] := hD
  refine lv_aload_n hx hb dX0_init_11 rfl (lv_at hl 0 rfl) ?_
  refine lv_bipush (v := 24) hx hb dX0_init_12 (by decide) ?_
  refine ri_newa X hP hD hS hA (N := 24) (by decide) (by decide) (by decide) (Nat.le_of_ble_eq_true rfl) (Nat.le_of_ble_eq_true rfl) dX0_init_14 (fun z1 H hP hD hS => ?_)
  refine W.widen (k := 2) (n := 27) (Nat.le_of_ble_eq_true rfl) (Nat.le_of_ble_eq_true rfl) ?_
  refine va_putF (D := (dC, dI)) (ci := 0) (v := .ref z1) (ty := .array .int) (C := RX0) (T := TX0) (N := 17) hx hb hts in_X0 tyX0 tyX0_ok nmX0 hown hK hP hD hS 0 rfl rfl 1 (by decide) (hts _ q33) (fun _ h9 => h9) rfl hin rfl (by decide +kernel) rfl rfl (Nat.le_of_ble_eq_true rfl) dX0_init_16 (fun H locs hP hD hS => ?_)
  have hP : va_P (dC, dI) vwCl [(a, .inr (0, [.ref z0, .ref z1, .null, .null, .null, .int 0, .null, .null, .null, .null, .null, .null, .null, .null, .int 0, .int 0, .null])), (z0, .inl (d, 3, .inl (fun _ => 0))), (z1, .inl (d, 24, .inl (fun _ => 0)))] H := hP
  have hD : va_D A [(a, .inr (0, [.ref z0, .ref z1, .null, .null, .null, .int 0, .null, .null, .null, .null, .null, .null, .null, .null, .int 0, .int 0, .null])), (z0, .inl (d, 3, .inl (fun _ => 0))), (z1, .inl (d, 24, .inl (fun _ => 0)))] := hD
  refine lv_aload_n hx hb dX0_init_19 rfl (lv_at hl 0 rfl) ?_
  refine lv_bipush (v := 24) hx hb dX0_init_20 (by decide) ?_
  refine ri_newa X hP hD hS hA (N := 24) (by decide) (by decide) (by decide) (Nat.le_of_ble_eq_true rfl) (Nat.le_of_ble_eq_true rfl) dX0_init_22 (fun z2 H hP hD hS => ?_)
  refine W.widen (k := 3) (n := 51) (Nat.le_of_ble_eq_true rfl) (Nat.le_of_ble_eq_true rfl) ?_
  refine va_putF (D := (dC, dI)) (ci := 0) (v := .ref z2) (ty := .array .int) (C := RX0) (T := TX0) (N := 17) hx hb hts in_X0 tyX0 tyX0_ok nmX0 hown hK hP hD hS 0 rfl rfl 2 (by decide) (hts _ q34) (fun _ h9 => h9) rfl hin rfl (by decide +kernel) rfl rfl (Nat.le_of_ble_eq_true rfl) dX0_init_24 (fun H locs hP hD hS => ?_)
  have hP : va_P (dC, dI) vwCl [(a, .inr (0, [.ref z0, .ref z1, .ref z2, .null, .null, .int 0, .null, .null, .null, .null, .null, .null, .null, .null, .int 0, .int 0, .null])), (z0, .inl (d, 3, .inl (fun _ => 0))), (z1, .inl (d, 24, .inl (fun _ => 0))), (z2, .inl (d, 24, .inl (fun _ => 0)))] H := hP
  have hD : va_D A [(a, .inr (0, [.ref z0, .ref z1, .ref z2, .null, .null, .int 0, .null, .null, .null, .null, .null, .null, .null, .null, .int 0, .int 0, .null])), (z0, .inl (d, 3, .inl (fun _ => 0))), (z1, .inl (d, 24, .inl (fun _ => 0))), (z2, .inl (d, 24, .inl (fun _ => 0)))] := hD
  refine lv_aload_n hx hb dX0_init_27 rfl (lv_at hl 0 rfl) ?_
  refine lv_bipush (v := 24) hx hb dX0_init_28 (by decide) ?_
  refine ri_newa X hP hD hS hA (N := 24) (by decide) (by decide) (by decide) (Nat.le_of_ble_eq_true rfl) (Nat.le_of_ble_eq_true rfl) dX0_init_30 (fun z3 H hP hD hS => ?_)
  refine W.widen (k := 4) (n := 75) (Nat.le_of_ble_eq_true rfl) (Nat.le_of_ble_eq_true rfl) ?_
  refine va_putF (D := (dC, dI)) (ci := 0) (v := .ref z3) (ty := .array .int) (C := RX0) (T := TX0) (N := 17) hx hb hts in_X0 tyX0 tyX0_ok nmX0 hown hK hP hD hS 0 rfl rfl 3 (by decide) (hts _ q35) (fun _ h9 => h9) rfl hin rfl (by decide +kernel) rfl rfl (Nat.le_of_ble_eq_true rfl) dX0_init_32 (fun H locs hP hD hS => ?_)
  have hP : va_P (dC, dI) vwCl [(a, .inr (0, [.ref z0, .ref z1, .ref z2, .ref z3, .null, .int 0, .null, .null, .null, .null, .null, .null, .null, .null, .int 0, .int 0, .null])), (z0, .inl (d, 3, .inl (fun _ => 0))), (z1, .inl (d, 24, .inl (fun _ => 0))), (z2, .inl (d, 24, .inl (fun _ => 0))), (z3, .inl (d, 24, .inl (fun _ => 0)))] H := hP
  have hD : va_D A [(a, .inr (0, [.ref z0, .ref z1, .ref z2, .ref z3, .null, .int 0, .null, .null, .null, .null, .null, .null, .null, .null, .int 0, .int 0, .null])), (z0, .inl (d, 3, .inl (fun _ => 0))), (z1, .inl (d, 24, .inl (fun _ => 0))), (z2, .inl (d, 24, .inl (fun _ => 0))), (z3, .inl (d, 24, .inl (fun _ => 0)))] := hD
  refine lv_aload_n hx hb dX0_init_35 rfl (lv_at hl 0 rfl) ?_
  refine lv_bipush (v := 24) hx hb dX0_init_36 (by decide) ?_
  refine ri_newa X hP hD hS hA (N := 24) (by decide) (by decide) (by decide) (Nat.le_of_ble_eq_true rfl) (Nat.le_of_ble_eq_true rfl) dX0_init_38 (fun z4 H hP hD hS => ?_)
  refine W.widen (k := 5) (n := 99) (Nat.le_of_ble_eq_true rfl) (Nat.le_of_ble_eq_true rfl) ?_
  refine va_putF (D := (dC, dI)) (ci := 0) (v := .ref z4) (ty := .array .int) (C := RX0) (T := TX0) (N := 17) hx hb hts in_X0 tyX0 tyX0_ok nmX0 hown hK hP hD hS 0 rfl rfl 4 (by decide) (hts _ q36) (fun _ h9 => h9) rfl hin rfl (by decide +kernel) rfl rfl (Nat.le_of_ble_eq_true rfl) dX0_init_40 (fun H locs hP hD hS => ?_)
  have hP : va_P (dC, dI) vwCl [(a, .inr (0, [.ref z0, .ref z1, .ref z2, .ref z3, .ref z4, .int 0, .null, .null, .null, .null, .null, .null, .null, .null, .int 0, .int 0, .null])), (z0, .inl (d, 3, .inl (fun _ => 0))), (z1, .inl (d, 24, .inl (fun _ => 0))), (z2, .inl (d, 24, .inl (fun _ => 0))), (z3, .inl (d, 24, .inl (fun _ => 0))), (z4, .inl (d, 24, .inl (fun _ => 0)))] H := hP
  have hD : va_D A [(a, .inr (0, [.ref z0, .ref z1, .ref z2, .ref z3, .ref z4, .int 0, .null, .null, .null, .null, .null, .null, .null, .null, .int 0, .int 0, .null])), (z0, .inl (d, 3, .inl (fun _ => 0))), (z1, .inl (d, 24, .inl (fun _ => 0))), (z2, .inl (d, 24, .inl (fun _ => 0))), (z3, .inl (d, 24, .inl (fun _ => 0))), (z4, .inl (d, 24, .inl (fun _ => 0)))] := hD
  refine lv_aload_n hx hb dX0_init_43 rfl (lv_at hl 0 rfl) ?_
  refine lv_bipush (v := 27) hx hb dX0_init_44 (by decide) ?_
  refine ri_newa X hP hD hS hA (N := 27) (by decide) (by decide) (by decide) (Nat.le_of_ble_eq_true rfl) (Nat.le_of_ble_eq_true rfl) dX0_init_46 (fun z6 H hP hD hS => ?_)
  refine W.widen (k := 6) (n := 126) (Nat.le_of_ble_eq_true rfl) (Nat.le_of_ble_eq_true rfl) ?_
  refine va_putF (D := (dC, dI)) (ci := 0) (v := .ref z6) (ty := .array .int) (C := RX0) (T := TX0) (N := 17) hx hb hts in_X0 tyX0 tyX0_ok nmX0 hown hK hP hD hS 0 rfl rfl 6 (by decide) (hts _ q38) (fun _ h9 => h9) rfl hin rfl (by decide +kernel) rfl rfl (Nat.le_of_ble_eq_true rfl) dX0_init_48 (fun H locs hP hD hS => ?_)
  have hP : va_P (dC, dI) vwCl [(a, .inr (0, [.ref z0, .ref z1, .ref z2, .ref z3, .ref z4, .int 0, .ref z6, .null, .null, .null, .null, .null, .null, .null, .int 0, .int 0, .null])), (z0, .inl (d, 3, .inl (fun _ => 0))), (z1, .inl (d, 24, .inl (fun _ => 0))), (z2, .inl (d, 24, .inl (fun _ => 0))), (z3, .inl (d, 24, .inl (fun _ => 0))), (z4, .inl (d, 24, .inl (fun _ => 0))), (z6, .inl (d, 27, .inl (fun _ => 0)))] H := hP
  have hD : va_D A [(a, .inr (0, [.ref z0, .ref z1, .ref z2, .ref z3, .ref z4, .int 0, .ref z6, .null, .null, .null, .null, .null, .null, .null, .int 0, .int 0, .null])), (z0, .inl (d, 3, .inl (fun _ => 0))), (z1, .inl (d, 24, .inl (fun _ => 0))), (z2, .inl (d, 24, .inl (fun _ => 0))), (z3, .inl (d, 24, .inl (fun _ => 0))), (z4, .inl (d, 24, .inl (fun _ => 0))), (z6, .inl (d, 27, .inl (fun _ => 0)))] := hD
  refine lv_aload_n hx hb dX0_init_51 rfl (lv_at hl 0 rfl) ?_
  refine lv_iconst (v := 4) hx hb dX0_init_52 (by decide) ?_
  refine ri_newa X hP hD hS hA (N := 4) (by decide) (by decide) (by decide) (Nat.le_of_ble_eq_true rfl) (Nat.le_of_ble_eq_true rfl) dX0_init_53 (fun z7 H hP hD hS => ?_)
  refine W.widen (k := 7) (n := 130) (Nat.le_of_ble_eq_true rfl) (Nat.le_of_ble_eq_true rfl) ?_
  refine va_putF (D := (dC, dI)) (ci := 0) (v := .ref z7) (ty := .array .int) (C := RX0) (T := TX0) (N := 17) hx hb hts in_X0 tyX0 tyX0_ok nmX0 hown hK hP hD hS 0 rfl rfl 7 (by decide) (hts _ q39) (fun _ h9 => h9) rfl hin rfl (by decide +kernel) rfl rfl (Nat.le_of_ble_eq_true rfl) dX0_init_55 (fun H locs hP hD hS => ?_)
  have hP : va_P (dC, dI) vwCl [(a, .inr (0, [.ref z0, .ref z1, .ref z2, .ref z3, .ref z4, .int 0, .ref z6, .ref z7, .null, .null, .null, .null, .null, .null, .int 0, .int 0, .null])), (z0, .inl (d, 3, .inl (fun _ => 0))), (z1, .inl (d, 24, .inl (fun _ => 0))), (z2, .inl (d, 24, .inl (fun _ => 0))), (z3, .inl (d, 24, .inl (fun _ => 0))), (z4, .inl (d, 24, .inl (fun _ => 0))), (z6, .inl (d, 27, .inl (fun _ => 0))), (z7, .inl (d, 4, .inl (fun _ => 0)))] H := hP
  have hD : va_D A [(a, .inr (0, [.ref z0, .ref z1, .ref z2, .ref z3, .ref z4, .int 0, .ref z6, .ref z7, .null, .null, .null, .null, .null, .null, .int 0, .int 0, .null])), (z0, .inl (d, 3, .inl (fun _ => 0))), (z1, .inl (d, 24, .inl (fun _ => 0))), (z2, .inl (d, 24, .inl (fun _ => 0))), (z3, .inl (d, 24, .inl (fun _ => 0))), (z4, .inl (d, 24, .inl (fun _ => 0))), (z6, .inl (d, 27, .inl (fun _ => 0))), (z7, .inl (d, 4, .inl (fun _ => 0)))] := hD
  refine lv_aload_n hx hb dX0_init_58 rfl (lv_at hl 0 rfl) ?_
  refine lv_iconst (v := 4) hx hb dX0_init_59 (by decide) ?_
  refine ri_newa X hP hD hS hA (N := 4) (by decide) (by decide) (by decide) (Nat.le_of_ble_eq_true rfl) (Nat.le_of_ble_eq_true rfl) dX0_init_60 (fun z8 H hP hD hS => ?_)
  refine W.widen (k := 8) (n := 134) (Nat.le_of_ble_eq_true rfl) (Nat.le_of_ble_eq_true rfl) ?_
  refine va_putF (D := (dC, dI)) (ci := 0) (v := .ref z8) (ty := .array .int) (C := RX0) (T := TX0) (N := 17) hx hb hts in_X0 tyX0 tyX0_ok nmX0 hown hK hP hD hS 0 rfl rfl 8 (by decide) (hts _ q40) (fun _ h9 => h9) rfl hin rfl (by decide +kernel) rfl rfl (Nat.le_of_ble_eq_true rfl) dX0_init_62 (fun H locs hP hD hS => ?_)
  have hP : va_P (dC, dI) vwCl [(a, .inr (0, [.ref z0, .ref z1, .ref z2, .ref z3, .ref z4, .int 0, .ref z6, .ref z7, .ref z8, .null, .null, .null, .null, .null, .int 0, .int 0, .null])), (z0, .inl (d, 3, .inl (fun _ => 0))), (z1, .inl (d, 24, .inl (fun _ => 0))), (z2, .inl (d, 24, .inl (fun _ => 0))), (z3, .inl (d, 24, .inl (fun _ => 0))), (z4, .inl (d, 24, .inl (fun _ => 0))), (z6, .inl (d, 27, .inl (fun _ => 0))), (z7, .inl (d, 4, .inl (fun _ => 0))), (z8, .inl (d, 4, .inl (fun _ => 0)))] H := hP
  have hD : va_D A [(a, .inr (0, [.ref z0, .ref z1, .ref z2, .ref z3, .ref z4, .int 0, .ref z6, .ref z7, .ref z8, .null, .null, .null, .null, .null, .int 0, .int 0, .null])), (z0, .inl (d, 3, .inl (fun _ => 0))), (z1, .inl (d, 24, .inl (fun _ => 0))), (z2, .inl (d, 24, .inl (fun _ => 0))), (z3, .inl (d, 24, .inl (fun _ => 0))), (z4, .inl (d, 24, .inl (fun _ => 0))), (z6, .inl (d, 27, .inl (fun _ => 0))), (z7, .inl (d, 4, .inl (fun _ => 0))), (z8, .inl (d, 4, .inl (fun _ => 0)))] := hD
  refine lv_aload_n hx hb dX0_init_65 rfl (lv_at hl 0 rfl) ?_
  refine lv_iconst (v := 4) hx hb dX0_init_66 (by decide) ?_
  refine ri_newa X hP hD hS hA (N := 4) (by decide) (by decide) (by decide) (Nat.le_of_ble_eq_true rfl) (Nat.le_of_ble_eq_true rfl) dX0_init_67 (fun z9 H hP hD hS => ?_)
  refine W.widen (k := 9) (n := 138) (Nat.le_of_ble_eq_true rfl) (Nat.le_of_ble_eq_true rfl) ?_
  refine va_putF (D := (dC, dI)) (ci := 0) (v := .ref z9) (ty := .array .int) (C := RX0) (T := TX0) (N := 17) hx hb hts in_X0 tyX0 tyX0_ok nmX0 hown hK hP hD hS 0 rfl rfl 9 (by decide) (hts _ q41) (fun _ h9 => h9) rfl hin rfl (by decide +kernel) rfl rfl (Nat.le_of_ble_eq_true rfl) dX0_init_69 (fun H locs hP hD hS => ?_)
  have hP : va_P (dC, dI) vwCl [(a, .inr (0, [.ref z0, .ref z1, .ref z2, .ref z3, .ref z4, .int 0, .ref z6, .ref z7, .ref z8, .ref z9, .null, .null, .null, .null, .int 0, .int 0, .null])), (z0, .inl (d, 3, .inl (fun _ => 0))), (z1, .inl (d, 24, .inl (fun _ => 0))), (z2, .inl (d, 24, .inl (fun _ => 0))), (z3, .inl (d, 24, .inl (fun _ => 0))), (z4, .inl (d, 24, .inl (fun _ => 0))), (z6, .inl (d, 27, .inl (fun _ => 0))), (z7, .inl (d, 4, .inl (fun _ => 0))), (z8, .inl (d, 4, .inl (fun _ => 0))), (z9, .inl (d, 4, .inl (fun _ => 0)))] H := hP
  have hD : va_D A [(a, .inr (0, [.ref z0, .ref z1, .ref z2, .ref z3, .ref z4, .int 0, .ref z6, .ref z7, .ref z8, .ref z9, .null, .null, .null, .null, .int 0, .int 0, .null])), (z0, .inl (d, 3, .inl (fun _ => 0))), (z1, .inl (d, 24, .inl (fun _ => 0))), (z2, .inl (d, 24, .inl (fun _ => 0))), (z3, .inl (d, 24, .inl (fun _ => 0))), (z4, .inl (d, 24, .inl (fun _ => 0))), (z6, .inl (d, 27, .inl (fun _ => 0))), (z7, .inl (d, 4, .inl (fun _ => 0))), (z8, .inl (d, 4, .inl (fun _ => 0))), (z9, .inl (d, 4, .inl (fun _ => 0)))] := hD
  refine lv_aload_n hx hb dX0_init_72 rfl (lv_at hl 0 rfl) ?_
  refine lv_iconst (v := 4) hx hb dX0_init_73 (by decide) ?_
  refine ri_newa X hP hD hS hA (N := 4) (by decide) (by decide) (by decide) (Nat.le_of_ble_eq_true rfl) (Nat.le_of_ble_eq_true rfl) dX0_init_74 (fun z10 H hP hD hS => ?_)
  refine W.widen (k := 10) (n := 142) (Nat.le_of_ble_eq_true rfl) (Nat.le_of_ble_eq_true rfl) ?_
  refine va_putF (D := (dC, dI)) (ci := 0) (v := .ref z10) (ty := .array .int) (C := RX0) (T := TX0) (N := 17) hx hb hts in_X0 tyX0 tyX0_ok nmX0 hown hK hP hD hS 0 rfl rfl 10 (by decide) (hts _ q42) (fun _ h9 => h9) rfl hin rfl (by decide +kernel) rfl rfl (Nat.le_of_ble_eq_true rfl) dX0_init_76 (fun H locs hP hD hS => ?_)
  have hP : va_P (dC, dI) vwCl [(a, .inr (0, [.ref z0, .ref z1, .ref z2, .ref z3, .ref z4, .int 0, .ref z6, .ref z7, .ref z8, .ref z9, .ref z10, .null, .null, .null, .int 0, .int 0, .null])), (z0, .inl (d, 3, .inl (fun _ => 0))), (z1, .inl (d, 24, .inl (fun _ => 0))), (z2, .inl (d, 24, .inl (fun _ => 0))), (z3, .inl (d, 24, .inl (fun _ => 0))), (z4, .inl (d, 24, .inl (fun _ => 0))), (z6, .inl (d, 27, .inl (fun _ => 0))), (z7, .inl (d, 4, .inl (fun _ => 0))), (z8, .inl (d, 4, .inl (fun _ => 0))), (z9, .inl (d, 4, .inl (fun _ => 0))), (z10, .inl (d, 4, .inl (fun _ => 0)))] H := hP
  have hD : va_D A [(a, .inr (0, [.ref z0, .ref z1, .ref z2, .ref z3, .ref z4, .int 0, .ref z6, .ref z7, .ref z8, .ref z9, .ref z10, .null, .null, .null, .int 0, .int 0, .null])), (z0, .inl (d, 3, .inl (fun _ => 0))), (z1, .inl (d, 24, .inl (fun _ => 0))), (z2, .inl (d, 24, .inl (fun _ => 0))), (z3, .inl (d, 24, .inl (fun _ => 0))), (z4, .inl (d, 24, .inl (fun _ => 0))), (z6, .inl (d, 27, .inl (fun _ => 0))), (z7, .inl (d, 4, .inl (fun _ => 0))), (z8, .inl (d, 4, .inl (fun _ => 0))), (z9, .inl (d, 4, .inl (fun _ => 0))), (z10, .inl (d, 4, .inl (fun _ => 0)))] := hD
  refine lv_aload_n hx hb dX0_init_79 rfl (lv_at hl 0 rfl) ?_
  refine lv_bipush (v := 16) hx hb dX0_init_80 (by decide) ?_
  refine ri_newa X hP hD hS hA (N := 16) (by decide) (by decide) (by decide) (Nat.le_of_ble_eq_true rfl) (Nat.le_of_ble_eq_true rfl) dX0_init_82 (fun z11 H hP hD hS => ?_)
  refine W.widen (k := 11) (n := 158) (Nat.le_of_ble_eq_true rfl) (Nat.le_of_ble_eq_true rfl) ?_
  refine va_putF (D := (dC, dI)) (ci := 0) (v := .ref z11) (ty := .array .int) (C := RX0) (T := TX0) (N := 17) hx hb hts in_X0 tyX0 tyX0_ok nmX0 hown hK hP hD hS 0 rfl rfl 11 (by decide) (hts _ q43) (fun _ h9 => h9) rfl hin rfl (by decide +kernel) rfl rfl (Nat.le_of_ble_eq_true rfl) dX0_init_84 (fun H locs hP hD hS => ?_)
  have hP : va_P (dC, dI) vwCl [(a, .inr (0, [.ref z0, .ref z1, .ref z2, .ref z3, .ref z4, .int 0, .ref z6, .ref z7, .ref z8, .ref z9, .ref z10, .ref z11, .null, .null, .int 0, .int 0, .null])), (z0, .inl (d, 3, .inl (fun _ => 0))), (z1, .inl (d, 24, .inl (fun _ => 0))), (z2, .inl (d, 24, .inl (fun _ => 0))), (z3, .inl (d, 24, .inl (fun _ => 0))), (z4, .inl (d, 24, .inl (fun _ => 0))), (z6, .inl (d, 27, .inl (fun _ => 0))), (z7, .inl (d, 4, .inl (fun _ => 0))), (z8, .inl (d, 4, .inl (fun _ => 0))), (z9, .inl (d, 4, .inl (fun _ => 0))), (z10, .inl (d, 4, .inl (fun _ => 0))), (z11, .inl (d, 16, .inl (fun _ => 0)))] H := hP
  have hD : va_D A [(a, .inr (0, [.ref z0, .ref z1, .ref z2, .ref z3, .ref z4, .int 0, .ref z6, .ref z7, .ref z8, .ref z9, .ref z10, .ref z11, .null, .null, .int 0, .int 0, .null])), (z0, .inl (d, 3, .inl (fun _ => 0))), (z1, .inl (d, 24, .inl (fun _ => 0))), (z2, .inl (d, 24, .inl (fun _ => 0))), (z3, .inl (d, 24, .inl (fun _ => 0))), (z4, .inl (d, 24, .inl (fun _ => 0))), (z6, .inl (d, 27, .inl (fun _ => 0))), (z7, .inl (d, 4, .inl (fun _ => 0))), (z8, .inl (d, 4, .inl (fun _ => 0))), (z9, .inl (d, 4, .inl (fun _ => 0))), (z10, .inl (d, 4, .inl (fun _ => 0))), (z11, .inl (d, 16, .inl (fun _ => 0)))] := hD
  refine lv_aload_n hx hb dX0_init_87 rfl (lv_at hl 0 rfl) ?_
  refine lv_bipush (v := 16) hx hb dX0_init_88 (by decide) ?_
  refine ri_newa X hP hD hS hA (N := 16) (by decide) (by decide) (by decide) (Nat.le_of_ble_eq_true rfl) (Nat.le_of_ble_eq_true rfl) dX0_init_90 (fun z12 H hP hD hS => ?_)
  refine W.widen (k := 12) (n := 174) (Nat.le_of_ble_eq_true rfl) (Nat.le_of_ble_eq_true rfl) ?_
  refine va_putF (D := (dC, dI)) (ci := 0) (v := .ref z12) (ty := .array .int) (C := RX0) (T := TX0) (N := 17) hx hb hts in_X0 tyX0 tyX0_ok nmX0 hown hK hP hD hS 0 rfl rfl 12 (by decide) (hts _ q44) (fun _ h9 => h9) rfl hin rfl (by decide +kernel) rfl rfl (Nat.le_of_ble_eq_true rfl) dX0_init_92 (fun H locs hP hD hS => ?_)
  have hP : va_P (dC, dI) vwCl [(a, .inr (0, [.ref z0, .ref z1, .ref z2, .ref z3, .ref z4, .int 0, .ref z6, .ref z7, .ref z8, .ref z9, .ref z10, .ref z11, .ref z12, .null, .int 0, .int 0, .null])), (z0, .inl (d, 3, .inl (fun _ => 0))), (z1, .inl (d, 24, .inl (fun _ => 0))), (z2, .inl (d, 24, .inl (fun _ => 0))), (z3, .inl (d, 24, .inl (fun _ => 0))), (z4, .inl (d, 24, .inl (fun _ => 0))), (z6, .inl (d, 27, .inl (fun _ => 0))), (z7, .inl (d, 4, .inl (fun _ => 0))), (z8, .inl (d, 4, .inl (fun _ => 0))), (z9, .inl (d, 4, .inl (fun _ => 0))), (z10, .inl (d, 4, .inl (fun _ => 0))), (z11, .inl (d, 16, .inl (fun _ => 0))), (z12, .inl (d, 16, .inl (fun _ => 0)))] H := hP
  have hD : va_D A [(a, .inr (0, [.ref z0, .ref z1, .ref z2, .ref z3, .ref z4, .int 0, .ref z6, .ref z7, .ref z8, .ref z9, .ref z10, .ref z11, .ref z12, .null, .int 0, .int 0, .null])), (z0, .inl (d, 3, .inl (fun _ => 0))), (z1, .inl (d, 24, .inl (fun _ => 0))), (z2, .inl (d, 24, .inl (fun _ => 0))), (z3, .inl (d, 24, .inl (fun _ => 0))), (z4, .inl (d, 24, .inl (fun _ => 0))), (z6, .inl (d, 27, .inl (fun _ => 0))), (z7, .inl (d, 4, .inl (fun _ => 0))), (z8, .inl (d, 4, .inl (fun _ => 0))), (z9, .inl (d, 4, .inl (fun _ => 0))), (z10, .inl (d, 4, .inl (fun _ => 0))), (z11, .inl (d, 16, .inl (fun _ => 0))), (z12, .inl (d, 16, .inl (fun _ => 0)))] := hD
  refine lv_aload_n hx hb dX0_init_95 rfl (lv_at hl 0 rfl) ?_
  refine lv_bipush (v := 64) hx hb dX0_init_96 (by decide) ?_
  refine ri_newa X hP hD hS hA (N := 64) (by decide) (by decide) (by decide) (Nat.le_of_ble_eq_true rfl) (Nat.le_of_ble_eq_true rfl) dX0_init_98 (fun z13 H hP hD hS => ?_)
  refine W.widen (k := 13) (n := 238) (Nat.le_of_ble_eq_true rfl) (Nat.le_of_ble_eq_true rfl) ?_
  refine va_putF (D := (dC, dI)) (ci := 0) (v := .ref z13) (ty := .array .int) (C := RX0) (T := TX0) (N := 17) hx hb hts in_X0 tyX0 tyX0_ok nmX0 hown hK hP hD hS 0 rfl rfl 13 (by decide) (hts _ q45) (fun _ h9 => h9) rfl hin rfl (by decide +kernel) rfl rfl (Nat.le_of_ble_eq_true rfl) dX0_init_100 (fun H locs hP hD hS => ?_)
  have hP : va_P (dC, dI) vwCl [(a, .inr (0, [.ref z0, .ref z1, .ref z2, .ref z3, .ref z4, .int 0, .ref z6, .ref z7, .ref z8, .ref z9, .ref z10, .ref z11, .ref z12, .ref z13, .int 0, .int 0, .null])), (z0, .inl (d, 3, .inl (fun _ => 0))), (z1, .inl (d, 24, .inl (fun _ => 0))), (z2, .inl (d, 24, .inl (fun _ => 0))), (z3, .inl (d, 24, .inl (fun _ => 0))), (z4, .inl (d, 24, .inl (fun _ => 0))), (z6, .inl (d, 27, .inl (fun _ => 0))), (z7, .inl (d, 4, .inl (fun _ => 0))), (z8, .inl (d, 4, .inl (fun _ => 0))), (z9, .inl (d, 4, .inl (fun _ => 0))), (z10, .inl (d, 4, .inl (fun _ => 0))), (z11, .inl (d, 16, .inl (fun _ => 0))), (z12, .inl (d, 16, .inl (fun _ => 0))), (z13, .inl (d, 64, .inl (fun _ => 0)))] H := hP
  have hD : va_D A [(a, .inr (0, [.ref z0, .ref z1, .ref z2, .ref z3, .ref z4, .int 0, .ref z6, .ref z7, .ref z8, .ref z9, .ref z10, .ref z11, .ref z12, .ref z13, .int 0, .int 0, .null])), (z0, .inl (d, 3, .inl (fun _ => 0))), (z1, .inl (d, 24, .inl (fun _ => 0))), (z2, .inl (d, 24, .inl (fun _ => 0))), (z3, .inl (d, 24, .inl (fun _ => 0))), (z4, .inl (d, 24, .inl (fun _ => 0))), (z6, .inl (d, 27, .inl (fun _ => 0))), (z7, .inl (d, 4, .inl (fun _ => 0))), (z8, .inl (d, 4, .inl (fun _ => 0))), (z9, .inl (d, 4, .inl (fun _ => 0))), (z10, .inl (d, 4, .inl (fun _ => 0))), (z11, .inl (d, 16, .inl (fun _ => 0))), (z12, .inl (d, 16, .inl (fun _ => 0))), (z13, .inl (d, 64, .inl (fun _ => 0)))] := hD
  refine lv_aload_n hx hb dX0_init_103 rfl (lv_at hl 0 rfl) ?_
  refine lv_iconst (v := 4) hx hb dX0_init_104 (by decide) ?_
  refine ri_newa X hP hD hS hA (N := 4) (by decide) (by decide) (by decide) (Nat.le_of_ble_eq_true rfl) (Nat.le_of_ble_eq_true rfl) dX0_init_105 (fun z16 H hP hD hS => ?_)
  refine W.widen (k := 14) (n := 242) (Nat.le_of_ble_eq_true rfl) (Nat.le_of_ble_eq_true rfl) ?_
  refine va_putF (D := (dC, dI)) (ci := 0) (v := .ref z16) (ty := .array .int) (C := RX0) (T := TX0) (N := 17) hx hb hts in_X0 tyX0 tyX0_ok nmX0 hown hK hP hD hS 0 rfl rfl 16 (by decide) (hts _ q48) (fun _ h9 => h9) rfl hin rfl (by decide +kernel) rfl rfl (Nat.le_of_ble_eq_true rfl) dX0_init_107 (fun H locs hP hD hS => ?_)
  have hP : va_P (dC, dI) vwCl [(a, .inr (0, [.ref z0, .ref z1, .ref z2, .ref z3, .ref z4, .int 0, .ref z6, .ref z7, .ref z8, .ref z9, .ref z10, .ref z11, .ref z12, .ref z13, .int 0, .int 0, .ref z16])), (z0, .inl (d, 3, .inl (fun _ => 0))), (z1, .inl (d, 24, .inl (fun _ => 0))), (z2, .inl (d, 24, .inl (fun _ => 0))), (z3, .inl (d, 24, .inl (fun _ => 0))), (z4, .inl (d, 24, .inl (fun _ => 0))), (z6, .inl (d, 27, .inl (fun _ => 0))), (z7, .inl (d, 4, .inl (fun _ => 0))), (z8, .inl (d, 4, .inl (fun _ => 0))), (z9, .inl (d, 4, .inl (fun _ => 0))), (z10, .inl (d, 4, .inl (fun _ => 0))), (z11, .inl (d, 16, .inl (fun _ => 0))), (z12, .inl (d, 16, .inl (fun _ => 0))), (z13, .inl (d, 64, .inl (fun _ => 0))), (z16, .inl (d, 4, .inl (fun _ => 0)))] H := hP
  have hD : va_D A [(a, .inr (0, [.ref z0, .ref z1, .ref z2, .ref z3, .ref z4, .int 0, .ref z6, .ref z7, .ref z8, .ref z9, .ref z10, .ref z11, .ref z12, .ref z13, .int 0, .int 0, .ref z16])), (z0, .inl (d, 3, .inl (fun _ => 0))), (z1, .inl (d, 24, .inl (fun _ => 0))), (z2, .inl (d, 24, .inl (fun _ => 0))), (z3, .inl (d, 24, .inl (fun _ => 0))), (z4, .inl (d, 24, .inl (fun _ => 0))), (z6, .inl (d, 27, .inl (fun _ => 0))), (z7, .inl (d, 4, .inl (fun _ => 0))), (z8, .inl (d, 4, .inl (fun _ => 0))), (z9, .inl (d, 4, .inl (fun _ => 0))), (z10, .inl (d, 4, .inl (fun _ => 0))), (z11, .inl (d, 16, .inl (fun _ => 0))), (z12, .inl (d, 16, .inl (fun _ => 0))), (z13, .inl (d, 64, .inl (fun _ => 0))), (z16, .inl (d, 4, .inl (fun _ => 0)))] := hD
  refine lv_aload_n hx hb dX0_init_110 rfl (lv_at hl 0 rfl) ?_
  refine lv_iconst (v := 0) hx hb dX0_init_111 (by decide) ?_
  refine va_put (D := (dC, dI)) (ci := 0) (v := .int 0) (ty := .boolean) (C := RX0) (T := TX0) (N := 17) hx hb hts in_X0 tyX0 tyX0_ok nmX0 hown hK hP hD hS 0 rfl rfl 5 (by decide) (hts _ q37) (fun _ h9 => h9) rfl (by decide +kernel) rfl rfl (Nat.le_of_ble_eq_true rfl) dX0_init_112 (fun H locs hP hD hS => ?_)
  have hP : va_P (dC, dI) vwCl [(a, .inr (0, [.ref z0, .ref z1, .ref z2, .ref z3, .ref z4, .int 0, .ref z6, .ref z7, .ref z8, .ref z9, .ref z10, .ref z11, .ref z12, .ref z13, .int 0, .int 0, .ref z16])), (z0, .inl (d, 3, .inl (fun _ => 0))), (z1, .inl (d, 24, .inl (fun _ => 0))), (z2, .inl (d, 24, .inl (fun _ => 0))), (z3, .inl (d, 24, .inl (fun _ => 0))), (z4, .inl (d, 24, .inl (fun _ => 0))), (z6, .inl (d, 27, .inl (fun _ => 0))), (z7, .inl (d, 4, .inl (fun _ => 0))), (z8, .inl (d, 4, .inl (fun _ => 0))), (z9, .inl (d, 4, .inl (fun _ => 0))), (z10, .inl (d, 4, .inl (fun _ => 0))), (z11, .inl (d, 16, .inl (fun _ => 0))), (z12, .inl (d, 16, .inl (fun _ => 0))), (z13, .inl (d, 64, .inl (fun _ => 0))), (z16, .inl (d, 4, .inl (fun _ => 0)))] H := hP
  have hD : va_D A [(a, .inr (0, [.ref z0, .ref z1, .ref z2, .ref z3, .ref z4, .int 0, .ref z6, .ref z7, .ref z8, .ref z9, .ref z10, .ref z11, .ref z12, .ref z13, .int 0, .int 0, .ref z16])), (z0, .inl (d, 3, .inl (fun _ => 0))), (z1, .inl (d, 24, .inl (fun _ => 0))), (z2, .inl (d, 24, .inl (fun _ => 0))), (z3, .inl (d, 24, .inl (fun _ => 0))), (z4, .inl (d, 24, .inl (fun _ => 0))), (z6, .inl (d, 27, .inl (fun _ => 0))), (z7, .inl (d, 4, .inl (fun _ => 0))), (z8, .inl (d, 4, .inl (fun _ => 0))), (z9, .inl (d, 4, .inl (fun _ => 0))), (z10, .inl (d, 4, .inl (fun _ => 0))), (z11, .inl (d, 16, .inl (fun _ => 0))), (z12, .inl (d, 16, .inl (fun _ => 0))), (z13, .inl (d, 64, .inl (fun _ => 0))), (z16, .inl (d, 4, .inl (fun _ => 0)))] := hD
  let qf : Nat → Nat := fun k => match k with
    | 0 => z0
    | 1 => z1
    | 2 => z2
    | 3 => z3
    | 4 => z4
    | 6 => z6
    | 7 => z7
    | 8 => z8
    | 9 => z9
    | 10 => z10
    | 11 => z11
    | 12 => z12
    | 13 => z13
    | _ => z16
  have hP9 : va_P (dC, dI) vwCl (wc0 a qf d (fun _ _ => 0)) H := hP
  have hD9 : va_D A (wc0 a qf d (fun _ _ => 0)) := hD
  exact W.vret hx hb hr (fun t ht hW => ⟨⟨qf, rfl, trivial, by rw [ht]; exact hP9, va_K.moved hW.alike hK, hD9⟩, hS.F ht⟩) hS.2.2 dX0_init_115 hlocks
def dfl1 : List Value := [.null, .null, .null, .null, .null, .null, .null, .null, .null, .null, .null, .null]
set_option maxHeartbeats 8000000 in
/-- the constructor: all arrays new, all 0 -/
theorem k1_init (l : Launch) (dC : Nat → ClassId) (dI : Nat → Nat → Nat) (a : Nat) (d : ClassId) (sz : Nat) : Met l yX1_init (ws_ yX1_init cX1_init 1 none) ({ frames := 1, cells := 12, slots := 203, locals := 12 }) (va_Pc [.ref a] (fun U => U.heap.size = sz ∧ va_P (dC, dI) vwCl [(a, .inr (1, dfl1))] U.heap ∧ va_K (dC, dI) vwCl [(d, .int)] U ∧ va_D (fun _ => True) [(a, .inr (1, dfl1))])) (va_Qv (fun _ : Nat → Nat => True) (fun q t => Bd1 dC dI (va_A [(a, .inr (1, dfl1))] sz) a q d (fun _ _ => 0) t) (va_A [(a, .inr (1, dfl1))] sz)) 12 203 (va_A [(a, .inr (1, dfl1))] sz) := by
  refine Met.ofW (cc := cX1_init) (maxL := 1) (ret := none) (by decide) rfl ?_
  intro p e s m args below meth c s₁ B hml hv
  obtain ⟨rfl, hsz, hP, hK, hD0⟩ := hv
  have hx := B.exec
  have hb := B.bytes
  have hr := B.returns
  have hts := atoms_spec (ws := ws_ yX1_init cX1_init 1 none) B.pre
  have hts : ∀ w ∈ lw_all, w.before _ s = true := fun w h => hts w (List.mem_cons_of_mem _ h)
  have hown : s.vm.findClass RX1 = some m.cls := findClass_of_methodNamed B.named
  have hlocks := B.notSynchronized
  have hin : meth.name = "<init>" := (name_of_methodNamed B.named B.method).1
  subst hsz
  have hD := hD0.self (sz := s.heap.size)
  generalize hAe : va_A [(a, .inr (1, dfl1))] s.heap.size = A at hD ⊢
  have hA : ∀ q : Nat, s.heap.size ≤ q → A q := fun q h => by rw [← hAe]; exact Or.inr h
  have hS : va_S A s.heap s.heap [] := va_S.rf
  have X : cx RX1 p s m ([.ref a] : List Value).toArray c cX1_init 1 dC dI d := ⟨⟨hx, hb, hml, hown, hts⟩, hK⟩
  have hl := lv_entry ([.ref a]) (n := 1) (Nat.le_of_ble_eq_true rfl)
  rw [lg_entry_eq]
  generalize (lg_sl ([.ref a]) ++ List.replicate (1 - (lg_sl ([.ref a])).length) Slot.unset).toArray = ls at hl ⊢
  have hl : lv_has ls 1 [(0, .ref a)] := hl
  refine lv_aload_n hx hb dX1_init_0 rfl (lv_at hl 0 rfl) ?_
  refine W.objInit hx hb hown (hts _ q197) (hts _ q30) (hts _ q31) rfl (by rw [hml]; exact hl.1) rfl dX1_init_1 (Nat.le_of_ble_eq_true rfl) (Nat.le_of_ble_eq_true rfl) ?_
  refine W.eq (g2 := F0 m 4 ls []) rfl ?_
  have hP : va_P (dC, dI) vwCl [(a, .inr (1, [.null, .null, .null, .null, .null, .null, .null, .null, .null, .null, .null, .null]))] s.heap := hP
  have hD : va_D A [(a, .inr (1, [.null, .null, .null, .null, .null, .null, .null, .null, .null, .null, .null, .null]))] := hD
  refine lv_aload_n hx hb dX1_init_4 rfl (lv_at hl 0 rfl) ?_
  refine lv_iconst (v := 3) hx hb dX1_init_5 (by decide) ?_
  refine ri_newa X hP hD hS hA (N := 3) (by decide) (by decide) (by decide) (Nat.le_of_ble_eq_true rfl) (Nat.le_of_ble_eq_true rfl) dX1_init_6 (fun z0 H hP hD hS => ?_)
  refine W.widen (k := 1) (n := 3) (Nat.le_of_ble_eq_true rfl) (Nat.le_of_ble_eq_true rfl) ?_
  refine va_putF (D := (dC, dI)) (ci := 1) (v := .ref z0) (ty := .array .int) (C := RX1) (T := TX1) (N := 12) hx hb hts in_X1 tyX1 tyX1_ok nmX1 hown hK hP hD hS 0 rfl rfl 0 (by decide) (hts _ q198) (fun _ h9 => h9) rfl hin rfl (by decide +kernel) rfl rfl (Nat.le_of_ble_eq_true rfl) dX1_init_8 (fun H locs hP hD hS => ?_)
  have hP : va_P (dC, dI) vwCl [(a, .inr (1, [.ref z0, .null, .null, .null, .null, .null, .null, .null, .null, .null, .null, .null])), (z0, .inl (d, 3, .inl (fun _ => 0)))] H := hP
  have hD : va_D A [(a, .inr (1, [.ref z0, .null, .null, .null, .null, .null, .null, .null, .null, .null, .null, .null])), (z0, .inl (d, 3, .inl (fun _ => 0)))] := hD
  refine lv_aload_n hx hb dX1_init_11 rfl (lv_at hl 0 rfl) ?_
  refine lv_bipush (v := 24) hx hb dX1_init_12 (by decide) ?_
  refine ri_newa X hP hD hS hA (N := 24) (by decide) (by decide) (by decide) (Nat.le_of_ble_eq_true rfl) (Nat.le_of_ble_eq_true rfl) dX1_init_14 (fun z1 H hP hD hS => ?_)
  refine W.widen (k := 2) (n := 27) (Nat.le_of_ble_eq_true rfl) (Nat.le_of_ble_eq_true rfl) ?_
  refine va_putF (D := (dC, dI)) (ci := 1) (v := .ref z1) (ty := .array .int) (C := RX1) (T := TX1) (N := 12) hx hb hts in_X1 tyX1 tyX1_ok nmX1 hown hK hP hD hS 0 rfl rfl 1 (by decide) (hts _ q199) (fun _ h9 => h9) rfl hin rfl (by decide +kernel) rfl rfl (Nat.le_of_ble_eq_true rfl) dX1_init_16 (fun H locs hP hD hS => ?_)
  have hP : va_P (dC, dI) vwCl [(a, .inr (1, [.ref z0, .ref z1, .null, .null, .null, .null, .null, .null, .null, .null, .null, .null])), (z0, .inl (d, 3, .inl (fun _ => 0))), (z1, .inl (d, 24, .inl (fun _ => 0)))] H := hP
  have hD : va_D A [(a, .inr (1, [.ref z0, .ref z1, .null, .null, .null, .null, .null, .null, .null, .null, .null, .null])), (z0, .inl (d, 3, .inl (fun _ => 0))), (z1, .inl (d, 24, .inl (fun _ => 0)))] := hD
  refine lv_aload_n hx hb dX1_init_19 rfl (lv_at hl 0 rfl) ?_
  refine lv_bipush (v := 24) hx hb dX1_init_20 (by decide) ?_
  refine ri_newa X hP hD hS hA (N := 24) (by decide) (by decide) (by decide) (Nat.le_of_ble_eq_true rfl) (Nat.le_of_ble_eq_true rfl) dX1_init_22 (fun z2 H hP hD hS => ?_)
  refine W.widen (k := 3) (n := 51) (Nat.le_of_ble_eq_true rfl) (Nat.le_of_ble_eq_true rfl) ?_
  refine va_putF (D := (dC, dI)) (ci := 1) (v := .ref z2) (ty := .array .int) (C := RX1) (T := TX1) (N := 12) hx hb hts in_X1 tyX1 tyX1_ok nmX1 hown hK hP hD hS 0 rfl rfl 2 (by decide) (hts _ q200) (fun _ h9 => h9) rfl hin rfl (by decide +kernel) rfl rfl (Nat.le_of_ble_eq_true rfl) dX1_init_24 (fun H locs hP hD hS => ?_)
  have hP : va_P (dC, dI) vwCl [(a, .inr (1, [.ref z0, .ref z1, .ref z2, .null, .null, .null, .null, .null, .null, .null, .null, .null])), (z0, .inl (d, 3, .inl (fun _ => 0))), (z1, .inl (d, 24, .inl (fun _ => 0))), (z2, .inl (d, 24, .inl (fun _ => 0)))] H := hP
  have hD : va_D A [(a, .inr (1, [.ref z0, .ref z1, .ref z2, .null, .null, .null, .null, .null, .null, .null, .null, .null])), (z0, .inl (d, 3, .inl (fun _ => 0))), (z1, .inl (d, 24, .inl (fun _ => 0))), (z2, .inl (d, 24, .inl (fun _ => 0)))] := hD
  refine lv_aload_n hx hb dX1_init_27 rfl (lv_at hl 0 rfl) ?_
  refine lv_bipush (v := 24) hx hb dX1_init_28 (by decide) ?_
  refine ri_newa X hP hD hS hA (N := 24) (by decide) (by decide) (by decide) (Nat.le_of_ble_eq_true rfl) (Nat.le_of_ble_eq_true rfl) dX1_init_30 (fun z3 H hP hD hS => ?_)
  refine W.widen (k := 4) (n := 75) (Nat.le_of_ble_eq_true rfl) (Nat.le_of_ble_eq_true rfl) ?_
  refine va_putF (D := (dC, dI)) (ci := 1) (v := .ref z3) (ty := .array .int) (C := RX1) (T := TX1) (N := 12) hx hb hts in_X1 tyX1 tyX1_ok nmX1 hown hK hP hD hS 0 rfl rfl 3 (by decide) (hts _ q201) (fun _ h9 => h9) rfl hin rfl (by decide +kernel) rfl rfl (Nat.le_of_ble_eq_true rfl) dX1_init_32 (fun H locs hP hD hS => ?_)
  have hP : va_P (dC, dI) vwCl [(a, .inr (1, [.ref z0, .ref z1, .ref z2, .ref z3, .null, .null, .null, .null, .null, .null, .null, .null])), (z0, .inl (d, 3, .inl (fun _ => 0))), (z1, .inl (d, 24, .inl (fun _ => 0))), (z2, .inl (d, 24, .inl (fun _ => 0))), (z3, .inl (d, 24, .inl (fun _ => 0)))] H := hP
  have hD : va_D A [(a, .inr (1, [.ref z0, .ref z1, .ref z2, .ref z3, .null, .null, .null, .null, .null, .null, .null, .null])), (z0, .inl (d, 3, .inl (fun _ => 0))), (z1, .inl (d, 24, .inl (fun _ => 0))), (z2, .inl (d, 24, .inl (fun _ => 0))), (z3, .inl (d, 24, .inl (fun _ => 0)))] := hD
  refine lv_aload_n hx hb dX1_init_35 rfl (lv_at hl 0 rfl) ?_
  refine lv_iconst (v := 4) hx hb dX1_init_36 (by decide) ?_
  refine ri_newa X hP hD hS hA (N := 4) (by decide) (by decide) (by decide) (Nat.le_of_ble_eq_true rfl) (Nat.le_of_ble_eq_true rfl) dX1_init_37 (fun z4 H hP hD hS => ?_)
  refine W.widen (k := 5) (n := 79) (Nat.le_of_ble_eq_true rfl) (Nat.le_of_ble_eq_true rfl) ?_
  refine va_putF (D := (dC, dI)) (ci := 1) (v := .ref z4) (ty := .array .int) (C := RX1) (T := TX1) (N := 12) hx hb hts in_X1 tyX1 tyX1_ok nmX1 hown hK hP hD hS 0 rfl rfl 4 (by decide) (hts _ q202) (fun _ h9 => h9) rfl hin rfl (by decide +kernel) rfl rfl (Nat.le_of_ble_eq_true rfl) dX1_init_39 (fun H locs hP hD hS => ?_)
  have hP : va_P (dC, dI) vwCl [(a, .inr (1, [.ref z0, .ref z1, .ref z2, .ref z3, .ref z4, .null, .null, .null, .null, .null, .null, .null])), (z0, .inl (d, 3, .inl (fun _ => 0))), (z1, .inl (d, 24, .inl (fun _ => 0))), (z2, .inl (d, 24, .inl (fun _ => 0))), (z3, .inl (d, 24, .inl (fun _ => 0))), (z4, .inl (d, 4, .inl (fun _ => 0)))] H := hP
  have hD : va_D A [(a, .inr (1, [.ref z0, .ref z1, .ref z2, .ref z3, .ref z4, .null, .null, .null, .null, .null, .null, .null])), (z0, .inl (d, 3, .inl (fun _ => 0))), (z1, .inl (d, 24, .inl (fun _ => 0))), (z2, .inl (d, 24, .inl (fun _ => 0))), (z3, .inl (d, 24, .inl (fun _ => 0))), (z4, .inl (d, 4, .inl (fun _ => 0)))] := hD
  refine lv_aload_n hx hb dX1_init_42 rfl (lv_at hl 0 rfl) ?_
  refine lv_iconst (v := 4) hx hb dX1_init_43 (by decide) ?_
  refine ri_newa X hP hD hS hA (N := 4) (by decide) (by decide) (by decide) (Nat.le_of_ble_eq_true rfl) (Nat.le_of_ble_eq_true rfl) dX1_init_44 (fun z5 H hP hD hS => ?_)
  refine W.widen (k := 6) (n := 83) (Nat.le_of_ble_eq_true rfl) (Nat.le_of_ble_eq_true rfl) ?_
  refine va_putF (D := (dC, dI)) (ci := 1) (v := .ref z5) (ty := .array .int) (C := RX1) (T := TX1) (N := 12) hx hb hts in_X1 tyX1 tyX1_ok nmX1 hown hK hP hD hS 0 rfl rfl 5 (by decide) (hts _ q203) (fun _ h9 => h9) rfl hin rfl (by decide +kernel) rfl rfl (Nat.le_of_ble_eq_true rfl) dX1_init_46 (fun H locs hP hD hS => ?_)
  have hP : va_P (dC, dI) vwCl [(a, .inr (1, [.ref z0, .ref z1, .ref z2, .ref z3, .ref z4, .ref z5, .null, .null, .null, .null, .null, .null])), (z0, .inl (d, 3, .inl (fun _ => 0))), (z1, .inl (d, 24, .inl (fun _ => 0))), (z2, .inl (d, 24, .inl (fun _ => 0))), (z3, .inl (d, 24, .inl (fun _ => 0))), (z4, .inl (d, 4, .inl (fun _ => 0))), (z5, .inl (d, 4, .inl (fun _ => 0)))] H := hP
  have hD : va_D A [(a, .inr (1, [.ref z0, .ref z1, .ref z2, .ref z3, .ref z4, .ref z5, .null, .null, .null, .null, .null, .null])), (z0, .inl (d, 3, .inl (fun _ => 0))), (z1, .inl (d, 24, .inl (fun _ => 0))), (z2, .inl (d, 24, .inl (fun _ => 0))), (z3, .inl (d, 24, .inl (fun _ => 0))), (z4, .inl (d, 4, .inl (fun _ => 0))), (z5, .inl (d, 4, .inl (fun _ => 0)))] := hD
  refine lv_aload_n hx hb dX1_init_49 rfl (lv_at hl 0 rfl) ?_
  refine lv_iconst (v := 4) hx hb dX1_init_50 (by decide) ?_
  refine ri_newa X hP hD hS hA (N := 4) (by decide) (by decide) (by decide) (Nat.le_of_ble_eq_true rfl) (Nat.le_of_ble_eq_true rfl) dX1_init_51 (fun z6 H hP hD hS => ?_)
  refine W.widen (k := 7) (n := 87) (Nat.le_of_ble_eq_true rfl) (Nat.le_of_ble_eq_true rfl) ?_
  refine va_putF (D := (dC, dI)) (ci := 1) (v := .ref z6) (ty := .array .int) (C := RX1) (T := TX1) (N := 12) hx hb hts in_X1 tyX1 tyX1_ok nmX1 hown hK hP hD hS 0 rfl rfl 6 (by decide) (hts _ q204) (fun _ h9 => h9) rfl hin rfl (by decide +kernel) rfl rfl (Nat.le_of_ble_eq_true rfl) dX1_init_53 (fun H locs hP hD hS => ?_)
  have hP : va_P (dC, dI) vwCl [(a, .inr (1, [.ref z0, .ref z1, .ref z2, .ref z3, .ref z4, .ref z5, .ref z6, .null, .null, .null, .null, .null])), (z0, .inl (d, 3, .inl (fun _ => 0))), (z1, .inl (d, 24, .inl (fun _ => 0))), (z2, .inl (d, 24, .inl (fun _ => 0))), (z3, .inl (d, 24, .inl (fun _ => 0))), (z4, .inl (d, 4, .inl (fun _ => 0))), (z5, .inl (d, 4, .inl (fun _ => 0))), (z6, .inl (d, 4, .inl (fun _ => 0)))] H := hP
  have hD : va_D A [(a, .inr (1, [.ref z0, .ref z1, .ref z2, .ref z3, .ref z4, .ref z5, .ref z6, .null, .null, .null, .null, .null])), (z0, .inl (d, 3, .inl (fun _ => 0))), (z1, .inl (d, 24, .inl (fun _ => 0))), (z2, .inl (d, 24, .inl (fun _ => 0))), (z3, .inl (d, 24, .inl (fun _ => 0))), (z4, .inl (d, 4, .inl (fun _ => 0))), (z5, .inl (d, 4, .inl (fun _ => 0))), (z6, .inl (d, 4, .inl (fun _ => 0)))] := hD
  refine lv_aload_n hx hb dX1_init_56 rfl (lv_at hl 0 rfl) ?_
  refine lv_iconst (v := 4) hx hb dX1_init_57 (by decide) ?_
  refine ri_newa X hP hD hS hA (N := 4) (by decide) (by decide) (by decide) (Nat.le_of_ble_eq_true rfl) (Nat.le_of_ble_eq_true rfl) dX1_init_58 (fun z7 H hP hD hS => ?_)
  refine W.widen (k := 8) (n := 91) (Nat.le_of_ble_eq_true rfl) (Nat.le_of_ble_eq_true rfl) ?_
  refine va_putF (D := (dC, dI)) (ci := 1) (v := .ref z7) (ty := .array .int) (C := RX1) (T := TX1) (N := 12) hx hb hts in_X1 tyX1 tyX1_ok nmX1 hown hK hP hD hS 0 rfl rfl 7 (by decide) (hts _ q205) (fun _ h9 => h9) rfl hin rfl (by decide +kernel) rfl rfl (Nat.le_of_ble_eq_true rfl) dX1_init_60 (fun H locs hP hD hS => ?_)
  have hP : va_P (dC, dI) vwCl [(a, .inr (1, [.ref z0, .ref z1, .ref z2, .ref z3, .ref z4, .ref z5, .ref z6, .ref z7, .null, .null, .null, .null])), (z0, .inl (d, 3, .inl (fun _ => 0))), (z1, .inl (d, 24, .inl (fun _ => 0))), (z2, .inl (d, 24, .inl (fun _ => 0))), (z3, .inl (d, 24, .inl (fun _ => 0))), (z4, .inl (d, 4, .inl (fun _ => 0))), (z5, .inl (d, 4, .inl (fun _ => 0))), (z6, .inl (d, 4, .inl (fun _ => 0))), (z7, .inl (d, 4, .inl (fun _ => 0)))] H := hP
  have hD : va_D A [(a, .inr (1, [.ref z0, .ref z1, .ref z2, .ref z3, .ref z4, .ref z5, .ref z6, .ref z7, .null, .null, .null, .null])), (z0, .inl (d, 3, .inl (fun _ => 0))), (z1, .inl (d, 24, .inl (fun _ => 0))), (z2, .inl (d, 24, .inl (fun _ => 0))), (z3, .inl (d, 24, .inl (fun _ => 0))), (z4, .inl (d, 4, .inl (fun _ => 0))), (z5, .inl (d, 4, .inl (fun _ => 0))), (z6, .inl (d, 4, .inl (fun _ => 0))), (z7, .inl (d, 4, .inl (fun _ => 0)))] := hD
  refine lv_aload_n hx hb dX1_init_63 rfl (lv_at hl 0 rfl) ?_
  refine lv_bipush (v := 16) hx hb dX1_init_64 (by decide) ?_
  refine ri_newa X hP hD hS hA (N := 16) (by decide) (by decide) (by decide) (Nat.le_of_ble_eq_true rfl) (Nat.le_of_ble_eq_true rfl) dX1_init_66 (fun z8 H hP hD hS => ?_)
  refine W.widen (k := 9) (n := 107) (Nat.le_of_ble_eq_true rfl) (Nat.le_of_ble_eq_true rfl) ?_
  refine va_putF (D := (dC, dI)) (ci := 1) (v := .ref z8) (ty := .array .int) (C := RX1) (T := TX1) (N := 12) hx hb hts in_X1 tyX1 tyX1_ok nmX1 hown hK hP hD hS 0 rfl rfl 8 (by decide) (hts _ q206) (fun _ h9 => h9) rfl hin rfl (by decide +kernel) rfl rfl (Nat.le_of_ble_eq_true rfl) dX1_init_68 (fun H locs hP hD hS => ?_)
  have hP : va_P (dC, dI) vwCl [(a, .inr (1, [.ref z0, .ref z1, .ref z2, .ref z3, .ref z4, .ref z5, .ref z6, .ref z7, .ref z8, .null, .null, .null])), (z0, .inl (d, 3, .inl (fun _ => 0))), (z1, .inl (d, 24, .inl (fun _ => 0))), (z2, .inl (d, 24, .inl (fun _ => 0))), (z3, .inl (d, 24, .inl (fun _ => 0))), (z4, .inl (d, 4, .inl (fun _ => 0))), (z5, .inl (d, 4, .inl (fun _ => 0))), (z6, .inl (d, 4, .inl (fun _ => 0))), (z7, .inl (d, 4, .inl (fun _ => 0))), (z8, .inl (d, 16, .inl (fun _ => 0)))] H := hP
  have hD : va_D A [(a, .inr (1, [.ref z0, .ref z1, .ref z2, .ref z3, .ref z4, .ref z5, .ref z6, .ref z7, .ref z8, .null, .null, .null])), (z0, .inl (d, 3, .inl (fun _ => 0))), (z1, .inl (d, 24, .inl (fun _ => 0))), (z2, .inl (d, 24, .inl (fun _ => 0))), (z3, .inl (d, 24, .inl (fun _ => 0))), (z4, .inl (d, 4, .inl (fun _ => 0))), (z5, .inl (d, 4, .inl (fun _ => 0))), (z6, .inl (d, 4, .inl (fun _ => 0))), (z7, .inl (d, 4, .inl (fun _ => 0))), (z8, .inl (d, 16, .inl (fun _ => 0)))] := hD
  refine lv_aload_n hx hb dX1_init_71 rfl (lv_at hl 0 rfl) ?_
  refine lv_bipush (v := 16) hx hb dX1_init_72 (by decide) ?_
  refine ri_newa X hP hD hS hA (N := 16) (by decide) (by decide) (by decide) (Nat.le_of_ble_eq_true rfl) (Nat.le_of_ble_eq_true rfl) dX1_init_74 (fun z9 H hP hD hS => ?_)
  refine W.widen (k := 10) (n := 123) (Nat.le_of_ble_eq_true rfl) (Nat.le_of_ble_eq_true rfl) ?_
  refine va_putF (D := (dC, dI)) (ci := 1) (v := .ref z9) (ty := .array .int) (C := RX1) (T := TX1) (N := 12) hx hb hts in_X1 tyX1 tyX1_ok nmX1 hown hK hP hD hS 0 rfl rfl 9 (by decide) (hts _ q207) (fun _ h9 => h9) rfl hin rfl (by decide +kernel) rfl rfl (Nat.le_of_ble_eq_true rfl) dX1_init_76 (fun H locs hP hD hS => ?_)
  have hP : va_P (dC, dI) vwCl [(a, .inr (1, [.ref z0, .ref z1, .ref z2, .ref z3, .ref z4, .ref z5, .ref z6, .ref z7, .ref z8, .ref z9, .null, .null])), (z0, .inl (d, 3, .inl (fun _ => 0))), (z1, .inl (d, 24, .inl (fun _ => 0))), (z2, .inl (d, 24, .inl (fun _ => 0))), (z3, .inl (d, 24, .inl (fun _ => 0))), (z4, .inl (d, 4, .inl (fun _ => 0))), (z5, .inl (d, 4, .inl (fun _ => 0))), (z6, .inl (d, 4, .inl (fun _ => 0))), (z7, .inl (d, 4, .inl (fun _ => 0))), (z8, .inl (d, 16, .inl (fun _ => 0))), (z9, .inl (d, 16, .inl (fun _ => 0)))] H := hP
  have hD : va_D A [(a, .inr (1, [.ref z0, .ref z1, .ref z2, .ref z3, .ref z4, .ref z5, .ref z6, .ref z7, .ref z8, .ref z9, .null, .null])), (z0, .inl (d, 3, .inl (fun _ => 0))), (z1, .inl (d, 24, .inl (fun _ => 0))), (z2, .inl (d, 24, .inl (fun _ => 0))), (z3, .inl (d, 24, .inl (fun _ => 0))), (z4, .inl (d, 4, .inl (fun _ => 0))), (z5, .inl (d, 4, .inl (fun _ => 0))), (z6, .inl (d, 4, .inl (fun _ => 0))), (z7, .inl (d, 4, .inl (fun _ => 0))), (z8, .inl (d, 16, .inl (fun _ => 0))), (z9, .inl (d, 16, .inl (fun _ => 0)))] := hD
  refine lv_aload_n hx hb dX1_init_79 rfl (lv_at hl 0 rfl) ?_
  refine lv_bipush (v := 16) hx hb dX1_init_80 (by decide) ?_
  refine ri_newa X hP hD hS hA (N := 16) (by decide) (by decide) (by decide) (Nat.le_of_ble_eq_true rfl) (Nat.le_of_ble_eq_true rfl) dX1_init_82 (fun z10 H hP hD hS => ?_)
  refine W.widen (k := 11) (n := 139) (Nat.le_of_ble_eq_true rfl) (Nat.le_of_ble_eq_true rfl) ?_
  refine va_putF (D := (dC, dI)) (ci := 1) (v := .ref z10) (ty := .array .int) (C := RX1) (T := TX1) (N := 12) hx hb hts in_X1 tyX1 tyX1_ok nmX1 hown hK hP hD hS 0 rfl rfl 10 (by decide) (hts _ q208) (fun _ h9 => h9) rfl hin rfl (by decide +kernel) rfl rfl (Nat.le_of_ble_eq_true rfl) dX1_init_84 (fun H locs hP hD hS => ?_)
  have hP : va_P (dC, dI) vwCl [(a, .inr (1, [.ref z0, .ref z1, .ref z2, .ref z3, .ref z4, .ref z5, .ref z6, .ref z7, .ref z8, .ref z9, .ref z10, .null])), (z0, .inl (d, 3, .inl (fun _ => 0))), (z1, .inl (d, 24, .inl (fun _ => 0))), (z2, .inl (d, 24, .inl (fun _ => 0))), (z3, .inl (d, 24, .inl (fun _ => 0))), (z4, .inl (d, 4, .inl (fun _ => 0))), (z5, .inl (d, 4, .inl (fun _ => 0))), (z6, .inl (d, 4, .inl (fun _ => 0))), (z7, .inl (d, 4, .inl (fun _ => 0))), (z8, .inl (d, 16, .inl (fun _ => 0))), (z9, .inl (d, 16, .inl (fun _ => 0))), (z10, .inl (d, 16, .inl (fun _ => 0)))] H := hP
  have hD : va_D A [(a, .inr (1, [.ref z0, .ref z1, .ref z2, .ref z3, .ref z4, .ref z5, .ref z6, .ref z7, .ref z8, .ref z9, .ref z10, .null])), (z0, .inl (d, 3, .inl (fun _ => 0))), (z1, .inl (d, 24, .inl (fun _ => 0))), (z2, .inl (d, 24, .inl (fun _ => 0))), (z3, .inl (d, 24, .inl (fun _ => 0))), (z4, .inl (d, 4, .inl (fun _ => 0))), (z5, .inl (d, 4, .inl (fun _ => 0))), (z6, .inl (d, 4, .inl (fun _ => 0))), (z7, .inl (d, 4, .inl (fun _ => 0))), (z8, .inl (d, 16, .inl (fun _ => 0))), (z9, .inl (d, 16, .inl (fun _ => 0))), (z10, .inl (d, 16, .inl (fun _ => 0)))] := hD
  refine lv_aload_n hx hb dX1_init_87 rfl (lv_at hl 0 rfl) ?_
  refine lv_bipush (v := 64) hx hb dX1_init_88 (by decide) ?_
  refine ri_newa X hP hD hS hA (N := 64) (by decide) (by decide) (by decide) (Nat.le_of_ble_eq_true rfl) (Nat.le_of_ble_eq_true rfl) dX1_init_90 (fun z11 H hP hD hS => ?_)
  refine W.widen (k := 12) (n := 203) (Nat.le_of_ble_eq_true rfl) (Nat.le_of_ble_eq_true rfl) ?_
  refine va_putF (D := (dC, dI)) (ci := 1) (v := .ref z11) (ty := .array .int) (C := RX1) (T := TX1) (N := 12) hx hb hts in_X1 tyX1 tyX1_ok nmX1 hown hK hP hD hS 0 rfl rfl 11 (by decide) (hts _ q209) (fun _ h9 => h9) rfl hin rfl (by decide +kernel) rfl rfl (Nat.le_of_ble_eq_true rfl) dX1_init_92 (fun H locs hP hD hS => ?_)
  have hP : va_P (dC, dI) vwCl [(a, .inr (1, [.ref z0, .ref z1, .ref z2, .ref z3, .ref z4, .ref z5, .ref z6, .ref z7, .ref z8, .ref z9, .ref z10, .ref z11])), (z0, .inl (d, 3, .inl (fun _ => 0))), (z1, .inl (d, 24, .inl (fun _ => 0))), (z2, .inl (d, 24, .inl (fun _ => 0))), (z3, .inl (d, 24, .inl (fun _ => 0))), (z4, .inl (d, 4, .inl (fun _ => 0))), (z5, .inl (d, 4, .inl (fun _ => 0))), (z6, .inl (d, 4, .inl (fun _ => 0))), (z7, .inl (d, 4, .inl (fun _ => 0))), (z8, .inl (d, 16, .inl (fun _ => 0))), (z9, .inl (d, 16, .inl (fun _ => 0))), (z10, .inl (d, 16, .inl (fun _ => 0))), (z11, .inl (d, 64, .inl (fun _ => 0)))] H := hP
  have hD : va_D A [(a, .inr (1, [.ref z0, .ref z1, .ref z2, .ref z3, .ref z4, .ref z5, .ref z6, .ref z7, .ref z8, .ref z9, .ref z10, .ref z11])), (z0, .inl (d, 3, .inl (fun _ => 0))), (z1, .inl (d, 24, .inl (fun _ => 0))), (z2, .inl (d, 24, .inl (fun _ => 0))), (z3, .inl (d, 24, .inl (fun _ => 0))), (z4, .inl (d, 4, .inl (fun _ => 0))), (z5, .inl (d, 4, .inl (fun _ => 0))), (z6, .inl (d, 4, .inl (fun _ => 0))), (z7, .inl (d, 4, .inl (fun _ => 0))), (z8, .inl (d, 16, .inl (fun _ => 0))), (z9, .inl (d, 16, .inl (fun _ => 0))), (z10, .inl (d, 16, .inl (fun _ => 0))), (z11, .inl (d, 64, .inl (fun _ => 0)))] := hD
  let qf : Nat → Nat := fun k => match k with
    | 0 => z0
    | 1 => z1
    | 2 => z2
    | 3 => z3
    | 4 => z4
    | 5 => z5
    | 6 => z6
    | 7 => z7
    | 8 => z8
    | 9 => z9
    | 10 => z10
    | _ => z11
  have hP9 : va_P (dC, dI) vwCl (wc1 a qf d (fun _ _ => 0)) H := hP
  have hD9 : va_D A (wc1 a qf d (fun _ _ => 0)) := hD
  exact W.vret hx hb hr (fun t ht hW => ⟨⟨qf, rfl, trivial, by rw [ht]; exact hP9, va_K.moved hW.alike hK, hD9⟩, hS.F ht⟩) hS.2.2 dX1_init_95 hlocks
end
section
set_option maxRecDepth 100000
/-! ===== Int32 by its bits (a family of kit/laws/BITS.to-paste) ===== -/
def bt (x : Int32) (i : Nat) : Bool := x.toBitVec.getLsbD i
theorem b_ext {x y : Int32} (h : ∀ i, i < 32 → bt x i = bt y i) : x = y := Int32.toBitVec_inj.mp (BitVec.eq_of_getLsbD_eq (fun i hi => h i hi))
theorem b_or (x y : Int32) (i : Nat) : bt (x ||| y) i = (bt x i || bt y i) := by unfold bt; rw [Int32.toBitVec_or, BitVec.getLsbD_or]
theorem b_and (x y : Int32) (i : Nat) : bt (x &&& y) i = (bt x i && bt y i) := by unfold bt; rw [Int32.toBitVec_and, BitVec.getLsbD_and]
theorem b_xor (x y : Int32) (i : Nat) : bt (x ^^^ y) i = (bt x i ^^ bt y i) := by unfold bt; rw [Int32.toBitVec_xor, BitVec.getLsbD_xor]
theorem b_m1 : ∀ i, i < 32 → bt (-1) i = true := by decide +kernel
theorem b_0 (i : Nat) : bt 0 i = false := BitVec.getLsbD_zero
theorem s_l : ∀ n, n < 32 → ((nI n &&& 31).toBitVec.smod 32).toNat = n := by decide +kernel
theorem b_sshr (n : Nat) (hn : n < 32) (x : Int32) {i : Nat} (hi : i < 32) : bt (x >>> (nI n &&& 31)) i = if n + i < 32 then bt x (n + i) else bt x 31 := by
  unfold bt
  rw [Int32.toBitVec_shiftRight]
  show (x.toBitVec.sshiftRight ((nI n &&& 31).toBitVec.smod 32).toNat).getLsbD i = _
  rw [s_l n hn, BitVec.getLsbD_sshiftRight, BitVec.msb_eq_getLsbD_last]
  simp [hi]
theorem b_1 : ∀ i, i < 32 → bt 1 i = decide (i = 0) := by decide +kernel
theorem b_not (x : Int32) {i : Nat} (hi : i < 32) : bt (x ^^^ (-1)) i = !bt x i := by
  rw [b_xor, b_m1 i hi]
  cases bt x i <;> rfl
theorem b_bm : ∀ a, a < 4 → ∀ i, i < 32 → bt (bm (nI a)) i = decide (i = a) := by decide +kernel
theorem bk_bt (k : Int32) {r : Nat} (hr : r < 4) : bk k r ↔ bt k r = true := by
  have e : bt (k >>> (nI r &&& 31)) 0 = bt k r := by
    rw [b_sshr r (by omega) k (by decide), if_pos (by omega)]
    rfl
  rw [← e]
  show (k >>> (nI r &&& 31)) &&& 1 = 1 ↔ _
  generalize k >>> (nI r &&& 31) = x
  constructor
  · intro h
    have h2 : bt (x &&& 1) 0 = true := by rw [h]; decide +kernel
    rw [b_and] at h2
    exact (Bool.and_eq_true _ _ ▸ h2).1
  · intro h
    refine b_ext fun i hi => ?_
    rw [b_and, b_1 i hi]
    by_cases hz : i = 0
    · subst hz
      rw [h]
      rfl
    · simp [hz]
/-! ===== what pack and unpack do ===== -/
theorem su_oth {σ : St} {k i : Nat} {v : Int32} {k' i' : Nat} (h : k' ≠ k ∨ i' ≠ i) : su σ k i v k' i' = σ k' i' := by
  rw [su_app]
  by_cases hk : k' = k
  · rw [if_pos hk]
    rcases h with h | h
    · exact absurd hk h
    · rw [if_neg h, hk]
  · rw [if_neg hk]
theorem rk_lt (k : Int32) : ∀ {r i : Nat}, i < r → bk k i → rk k i < rk k r
  | 0, _, h, _ => absurd h (by omega)
  | r + 1, i, h, hb => by
    by_cases hi : i = r
    · subst hi
      show _ < (if bk k i then rk k i + 1 else rk k i)
      rw [if_pos hb]
      omega
    · have := rk_lt k (show i < r by omega) hb
      show _ < (if bk k r then rk k r + 1 else rk k r)
      split <;> omega
theorem pkL_in (σ : St) (k : Int32) (g : Nat) : ∀ r {i : Nat}, i < r → bk k i → pkL σ k g r 13 (g * 4 + rk k i) = σ 16 i
  | 0, _, h, _ => absurd h (by omega)
  | r + 1, i, h, hb => by
    by_cases hi : i = r
    · subst hi
      show (if bk k i then su (pkL σ k g i) 13 (g * 4 + rk k i) ((pkL σ k g i) 16 i) else pkL σ k g i) 13 _ = _
      rw [if_pos hb, su_eq, pkL_ne _ _ _ (by decide)]
    · have hl := rk_lt k (show i < r by omega) hb
      show (if bk k r then su (pkL σ k g r) 13 (g * 4 + rk k r) ((pkL σ k g r) 16 r) else pkL σ k g r) 13 _ = _
      split
      · rw [su_oth (by omega)]
        exact pkL_in σ k g r (by omega) hb
      · exact pkL_in σ k g r (by omega) hb
theorem pkL_out (σ : St) (k : Int32) (g : Nat) {j : Nat} (hj : j < g * 4 ∨ g * 4 + 4 ≤ j) : ∀ r, r ≤ 4 → pkL σ k g r 13 j = σ 13 j
  | 0, _ => rfl
  | r + 1, hr => by
    have hl := rk_le k r
    show (if bk k r then su (pkL σ k g r) 13 (g * 4 + rk k r) ((pkL σ k g r) 16 r) else pkL σ k g r) 13 _ = _
    split
    · rw [su_oth (by omega)]
      exact pkL_out σ k g hj r (by omega)
    · exact pkL_out σ k g hj r (by omega)
theorem pk_in13 (σ : St) (g f p : Nat) {i : Nat} (hi : i < 4) (hb : bt (kp σ f p) i = true) : pk σ g f p 13 (g * 4 + rk (kp σ f p) i) = σ 16 i := by
  unfold pk
  rw [pkL_in _ _ _ 4 hi ((bk_bt _ hi).mpr hb), su_oth (by omega), su_oth (by omega)]
theorem pk_out13 (σ : St) (g f p : Nat) {j : Nat} (hj : j < g * 4 ∨ g * 4 + 4 ≤ j) : pk σ g f p 13 j = σ 13 j := by
  unfold pk
  rw [pkL_out _ _ _ hj 4 (by omega), su_oth (by omega), su_oth (by omega)]
theorem pk_11 (σ : St) (g f p : Nat) : pk σ g f p 11 g = nI f := by
  unfold pk
  rw [pkL_ne _ _ _ (by decide), su_oth (by omega), su_eq]
theorem pk_12 (σ : St) (g f p : Nat) : pk σ g f p 12 g = nI p := by
  unfold pk
  rw [pkL_ne _ _ _ (by decide), su_eq]
theorem pk_11o (σ : St) (g f p : Nat) {h : Nat} (hh : h ≠ g) : pk σ g f p 11 h = σ 11 h := by
  unfold pk
  rw [pkL_ne _ _ _ (by decide), su_oth (by omega), su_oth (by omega)]
theorem pk_12o (σ : St) (g f p : Nat) {h : Nat} (hh : h ≠ g) : pk σ g f p 12 h = σ 12 h := by
  unfold pk
  rw [pkL_ne _ _ _ (by decide), su_oth (by omega), su_oth (by omega)]
theorem zrL_in (σ : St) : ∀ r {i : Nat}, i < r → zrL σ r 16 i = 0
  | 0, _, h => absurd h (by omega)
  | r + 1, i, h => by
    show su (zrL σ r) 16 r 0 16 i = 0
    by_cases hi : i = r
    · subst hi
      exact su_eq
    · rw [su_oth (by omega)]
      exact zrL_in σ r (by omega)
theorem unL_in (σ : St) (k : Int32) (g : Nat) : ∀ r {i : Nat}, i < r → bk k i → unL σ k g r 16 i = σ 13 (g * 4 + rk k i)
  | 0, _, h, _ => absurd h (by omega)
  | r + 1, i, h, hb => by
    show (if bk k r then su (unL σ k g r) 16 r ((unL σ k g r) 13 (g * 4 + rk k r)) else unL σ k g r) 16 i = _
    by_cases hi : i = r
    · subst hi
      rw [if_pos hb, su_eq, unL_ne _ _ _ (by decide)]
    · split
      · rw [su_oth (by omega)]
        exact unL_in σ k g r (by omega) hb
      · exact unL_in σ k g r (by omega) hb
/-- a waiting frame taken up again holds what it kept -/
theorem up0_in (σ : St) {g f p : Nat} (hf : f < 3) (hp : p < 8) (eF : σ 11 g = nI f) (eP : σ 12 g = nI p) {i : Nat} (hi : i < 4) (hb : bt (kp σ f p) i = true) : up0 σ g 16 i = σ 13 (g * 4 + rk (kp σ f p) i) := by
  unfold up0
  rw [if_neg (by rw [eP]; exact nI_pos (by omega)), eF, eP, cn_nI (by omega), cn_nI (by omega), unL_in _ _ _ 4 hi ((bk_bt _ hi).mpr hb), up1_ne _ _ (by decide) (by decide) (by decide)]
/-- a frame not begun yet holds its argument -/
theorem up0_0 (σ : St) {g : Nat} (eP : σ 12 g = -1) : up0 σ g 16 0 = σ 13 (g * 4) ∧ ∀ i, 0 < i → i < 4 → up0 σ g 16 i = 0 := by
  unfold up0
  rw [if_pos (by rw [eP]; decide)]
  refine ⟨su_eq, fun i h0 h4 => ?_⟩
  rw [su_oth (by omega)]
  exact zrL_in _ 4 h4
end
section
set_option maxRecDepth 100000
/-! ===== what a run of the coroutine co may change ===== -/
def lo0 (co k i : Nat) : Prop := ((k = 7 ∨ k = 8 ∨ k = 9 ∨ k = 10) ∧ i = co) ∨ ((k = 11 ∨ k = 12) ∧ co * 4 ≤ i ∧ i < co * 4 + 4) ∨ (k = 13 ∧ co * 16 ≤ i ∧ i < co * 16 + 16) ∨ 14 ≤ k
def lo1 (co k i : Nat) : Prop := ((k = 4 ∨ k = 5 ∨ k = 6 ∨ k = 7) ∧ i = co) ∨ ((k = 8 ∨ k = 9 ∨ k = 10) ∧ co * 4 ≤ i ∧ i < co * 4 + 4) ∨ (k = 11 ∧ co * 16 ≤ i ∧ i < co * 16 + 16)
def ot0 (σ σ' : St) (co : Nat) : Prop := ∀ k i, ¬ lo0 co k i → σ' k i = σ k i
def ot1 (τ τ' : St) (co : Nat) : Prop := ∀ k i, ¬ lo1 co k i → τ' k i = τ k i
theorem ot0_rf (σ : St) (co : Nat) : ot0 σ σ co := fun _ _ _ => rfl
theorem ot1_rf (σ : St) (co : Nat) : ot1 σ σ co := fun _ _ _ => rfl
theorem ot0.tr {σ σ' σ'' : St} {co : Nat} (h : ot0 σ σ' co) (h' : ot0 σ' σ'' co) : ot0 σ σ'' co := fun k i hn => (h' k i hn).trans (h k i hn)
theorem ot1.tr {σ σ' σ'' : St} {co : Nat} (h : ot1 σ σ' co) (h' : ot1 σ' σ'' co) : ot1 σ σ'' co := fun k i hn => (h' k i hn).trans (h k i hn)
theorem ot0_su {σ σ' : St} {co k i : Nat} {v : Int32} (h : ot0 σ σ' co) (hl : lo0 co k i) : ot0 σ (su σ' k i v) co := by
  intro k' i' hn
  by_cases he : k' = k ∧ i' = i
  · obtain ⟨rfl, rfl⟩ := he
    exact absurd hl hn
  · rw [su_oth (by omega)]
    exact h k' i' hn
theorem ot1_su {σ σ' : St} {co k i : Nat} {v : Int32} (h : ot1 σ σ' co) (hl : lo1 co k i) : ot1 σ (su σ' k i v) co := by
  intro k' i' hn
  by_cases he : k' = k ∧ i' = i
  · obtain ⟨rfl, rfl⟩ := he
    exact absurd hl hn
  · rw [su_oth (by omega)]
    exact h k' i' hn
theorem ot0.k {σ σ' : St} {co k : Nat} (h : ot0 σ σ' co) (hk : k ≤ 6) : σ' k = σ k := funext fun i => h k i (by unfold lo0; omega)
theorem ot1.k {σ σ' : St} {co k : Nat} (h : ot1 σ σ' co) (hk : k ≤ 3) : σ' k = σ k := funext fun i => h k i (by unfold lo1; omega)
theorem ot0.sm {σ σ' : St} {co : Nat} (h : ot0 σ σ' co) : sm σ σ' := ⟨h.k (by decide), h.k (by decide), h.k (by decide), h.k (by decide), h.k (by decide), h.k (by decide)⟩
theorem ot0_zrL {σ σ' : St} {co : Nat} (h : ot0 σ σ' co) : ∀ r, ot0 σ (zrL σ' r) co
  | 0 => h
  | r + 1 => ot0_su (ot0_zrL h r) (by unfold lo0; omega)
theorem ot0_unL {σ σ' : St} {co : Nat} (m : Int32) (g : Nat) (h : ot0 σ σ' co) : ∀ r, ot0 σ (unL σ' m g r) co
  | 0 => h
  | r + 1 => by
    unfold unL
    split
    · exact ot0_su (ot0_unL m g h r) (by unfold lo0; omega)
    · exact ot0_unL m g h r
theorem ot0_up1 {σ σ' : St} {co : Nat} (g : Nat) (h : ot0 σ σ' co) : ot0 σ (up1 σ' g) co := ot0_zrL (ot0_su (ot0_su h (by unfold lo0; omega)) (by unfold lo0; omega)) 4
theorem ot0_up0 {σ σ' : St} {co : Nat} (g : Nat) (h : ot0 σ σ' co) : ot0 σ (up0 σ' g) co := by
  unfold up0
  split
  · exact ot0_su (ot0_up1 g h) (by unfold lo0; omega)
  · exact ot0_unL _ _ (ot0_up1 g h) 4
theorem ot0_pkL {σ σ' : St} {co d : Nat} (m : Int32) (hd : d < 4) (h : ot0 σ σ' co) : ∀ r, r ≤ 4 → ot0 σ (pkL σ' m (co * 4 + d) r) co
  | 0, _ => h
  | r + 1, hr => by
    have hl := rk_le m r
    unfold pkL
    split
    · exact ot0_su (ot0_pkL m hd h r (by omega)) (by unfold lo0; omega)
    · exact ot0_pkL m hd h r (by omega)
theorem ot0_pk {σ σ' : St} {co d : Nat} (f p : Nat) (hd : d < 4) (h : ot0 σ σ' co) : ot0 σ (pk σ' (co * 4 + d) f p) co := ot0_pkL _ hd (ot0_su (ot0_su h (by unfold lo0; omega)) (by unfold lo0; omega)) 4 (Nat.le_refl 4)
theorem ot0_fin {σ σ' : St} {co : Nat} (st v : Int32) (h : ot0 σ σ' co) : ot0 σ (fin0 σ' co st v) co := ot0_su (ot0_su (ot0_su h (by unfold lo0; omega)) (by unfold lo0; omega)) (by unfold lo0; omega)
theorem ot0_gb {σ : St} {co d : Nat} (v : Int32) : ot0 σ (gb σ co d v) co := by
  unfold gb
  split
  · exact ot0_fin _ _ (ot0_su (ot0_rf σ co) (by unfold lo0; omega))
  · exact ot0_su (ot0_su (ot0_up0 _ (ot0_su (ot0_rf σ co) (by unfold lo0; omega))) (by unfold lo0; omega)) (by unfold lo0; omega)
theorem ot0_cl {σ : St} {co d : Nat} (f p : Nat) (hd : d < 4) : ot0 σ (cl σ co d f p) co := by
  unfold cl
  split
  · exact ot0_fin _ _ (ot0_rf σ co)
  · exact ot0_su (ot0_zrL (ot0_su (ot0_su (ot0_su (ot0_pk f p hd (ot0_rf σ co)) (by unfold lo0; omega)) (by unfold lo0; omega)) (by unfold lo0; omega)) 4) (by unfold lo0; omega)
theorem ot0_prf {σ : St} {co d : Nat} (f p : Nat) (hd : d < 4) : ot0 σ (prf σ co d f p) co := by
  unfold prf
  split
  · exact ot0_su (ot0_su (ot0_rf σ co) (by unfold lo0; omega)) (by unfold lo0; omega)
  split
  · exact ot0_su (ot0_su (ot0_rf σ co) (by unfold lo0; omega)) (by unfold lo0; omega)
  split
  · exact ot0_su (ot0_su (ot0_rf σ co) (by unfold lo0; omega)) (by unfold lo0; omega)
  split
  · exact ot0_su (ot0_rf σ co) (by unfold lo0; omega)
  split
  · exact ot0_su (ot0_rf σ co) (by unfold lo0; omega)
  split
  · exact ot0_pk f p hd (ot0_su (ot0_su (ot0_rf σ co) (by unfold lo0; omega)) (by unfold lo0; omega))
  split
  · exact ot0_cl f p hd
  · exact ot0_gb _
theorem ot1_en {τ τ' : St} {co : Nat} (st v : Int32) (h : ot1 τ τ' co) : ot1 τ (en τ' co st v) co := ot1_su (ot1_su (ot1_su h (by unfold lo1; omega)) (by unfold lo1; omega)) (by unfold lo1; omega)
theorem ot1_pu {τ τ' : St} {co d : Nat} (f x : Int32) (hd : d < 4) (h : ot1 τ τ' co) : ot1 τ (pu τ' co d f x) co := by
  unfold pu
  refine ot1_su (ot1_su (ot1_su (ot1_su (ot1_su (ot1_su (ot1_su h ?_) ?_) ?_) ?_) ?_) ?_) ?_ <;> (unfold lo1; omega)
theorem ot1_ba {τ τ' : St} {co d : Nat} (v : Int32) (hd : d < 4) (hg : gtw τ' co d) (h : ot1 τ τ' co) : ot1 τ (ba τ' co d v) co := by
  unfold ba
  split
  · exact ot1_en _ _ (ot1_su h (by unfold lo1; omega))
  · rename_i h0
    obtain ⟨r, hr, er⟩ := hg h0
    rw [er, cn_nI (by omega)]
    exact ot1_su (ot1_su h (by unfold lo1; omega)) (by unfold lo1; omega)
theorem ot1_ct {τ : St} {co d : Nat} (f p : Nat) (hd : d < 4) (hg : gtw τ co d) : ot1 τ (ct τ co d f p) co := by
  obtain ⟨a, ha, ea⟩ := and3 (τ 2 (f * 8 + p))
  have ca : cn (xA τ f p) = a := by rw [xA, ea]; exact cn_nI (by omega)
  have h9 : ∀ v, ot1 τ (su τ 9 (co * 4 + d) v) co := fun v => ot1_su (ot1_rf τ co) (by unfold lo1; omega)
  unfold ct
  rw [ca]
  split
  · exact ot1_su (h9 _) (by unfold lo1; omega)
  split
  · exact ot1_su (h9 _) (by unfold lo1; omega)
  split
  · exact ot1_su (h9 _) (by unfold lo1; omega)
  split
  · exact ot1_su (h9 _) (by unfold lo1; omega)
  split
  · split
    · exact h9 _
    · exact ot1_su (h9 _) (by unfold lo1; omega)
  split
  · exact ot1_su (ot1_su (ot1_su (h9 _) (by unfold lo1; omega)) (by unfold lo1; omega)) (by unfold lo1; omega)
  split
  · split
    · exact ot1_en _ _ (h9 _)
    · exact ot1_pu _ _ (by omega) (ot1_su (h9 _) (by unfold lo1; omega))
  split
  · refine ot1_ba _ hd ?_ (h9 _)
    intro h0
    obtain ⟨r, hr, er⟩ := hg h0
    exact ⟨r, hr, by rw [su_oth (by omega)]; exact er⟩
  · exact h9 _
/-! ===== the relations ===== -/
/-- the two hold one program -/
def cdW (σ τ : St) : Prop := σ 0 = τ 0 ∧ σ 1 = τ 1 ∧ (∀ j, σ 2 j = τ 2 j &&& 3) ∧ (∀ j, σ 3 j = (τ 2 j >>> (2 &&& 31)) &&& 3) ∧ σ 4 = τ 3 ∧ szw σ ∧ ∀ j, ∃ o, o < 8 ∧ σ 1 j = nI o
/-- the analysis is a fixpoint -/
def fix (σ : St) : Prop := ∀ f p, f < 3 → p < 8 → nI p < σ 0 f → σ 6 (f * 9 + p) = rdB σ f p
def ag (m : Int32) (x y : Nat → Int32) : Prop := ∀ i, i < 4 → bt m i = true → x i = y i
/-- a waiting frame, at an instruction of kind o -/
def Frm (σ τ : St) (g : Nat) (o : Int32) : Prop := ∃ f p, f < 3 ∧ p < 8 ∧ nI p < σ 0 f ∧ σ 11 g = nI f ∧ τ 8 g = nI f ∧ σ 12 g = nI p ∧ τ 9 g = nI (p + 1) ∧ σ 1 (f * 8 + p) = o ∧ τ 10 g = (if o = 5 then σ 3 (f * 8 + p) else σ 2 (f * 8 + p)) ∧ ∀ i, i < 4 → bt (kp σ f p) i = true → σ 13 (g * 4 + rk (kp σ f p) i) = τ 11 (g * 4 + i)
/-- co is at work, d frames wait below -/
def RunB (σ τ : St) (co d : Nat) : Prop := cdW σ τ ∧ fix σ ∧ d < 4 ∧ σ 7 co = 5 ∧ τ 4 co = 1 ∧ σ 8 co = τ 5 co ∧ σ 10 co = nI (d + 1) ∧ τ 7 co = nI (d + 1) ∧ ∀ i, i < d → Frm σ τ (co * 4 + i) 6
/-- the frame at work -/
def Cur (σ τ : St) (co d : Nat) : Prop := ∃ f, f < 3 ∧ σ 14 0 = nI f ∧ τ 8 (co * 4 + d) = nI f ∧ σ 15 0 = τ 9 (co * 4 + d) ∧ ag (rdA σ f (σ 15 0)) (σ 16) (fun i => τ 11 ((co * 4 + d) * 4 + i))
def Run (σ τ : St) (co d : Nat) : Prop := RunB σ τ co d ∧ Cur σ τ co d
/-- the frames of a waiting coroutine -/
def Wtf (σ τ : St) (co : Nat) : Prop := ∃ d, d < 4 ∧ σ 10 co = nI (d + 1) ∧ (∀ i, i < d → Frm σ τ (co * 4 + i) 6) ∧ Frm σ τ (co * 4 + d) 5
/-- co has stopped: waiting, done or failed -/
def Stpd (σ τ : St) (co : Nat) : Prop := cdW σ τ ∧ fix σ ∧ σ 7 co = τ 4 co ∧ σ 8 co = τ 5 co ∧ σ 10 co = τ 7 co ∧ (σ 7 co = 3 ∨ σ 7 co = 4 ∨ (σ 7 co = 2 ∧ Wtf σ τ co))
/-- not begun yet -/
def Rdy (σ τ : St) (co : Nat) : Prop := σ 10 co = 1 ∧ ∃ f, f < 3 ∧ σ 11 (co * 4) = nI f ∧ τ 8 (co * 4) = nI f ∧ σ 12 (co * 4) = -1 ∧ τ 9 (co * 4) = 0 ∧ σ 13 (co * 16) = τ 11 (co * 16) ∧ τ 11 (co * 16 + 1) = 0 ∧ τ 11 (co * 16 + 2) = 0 ∧ τ 11 (co * 16 + 3) = 0
def Idle (σ τ : St) (co : Nat) : Prop := σ 7 co = τ 4 co ∧ σ 8 co = τ 5 co ∧ σ 9 co = τ 6 co ∧ σ 10 co = τ 7 co ∧ (σ 7 co = 0 ∨ σ 7 co = 3 ∨ σ 7 co = 4 ∨ (σ 7 co = 1 ∧ Rdy σ τ co) ∨ (σ 7 co = 2 ∧ σ 5 0 = 1 ∧ Wtf σ τ co))
/-- between the law's calls -/
def Inv (σ τ : St) : Prop := cdW σ τ ∧ (σ 5 0 = 0 ∨ (σ 5 0 = 1 ∧ fix σ)) ∧ ∀ c, c < 4 → Idle σ τ c
/-! ===== moving them ===== -/
theorem cdW.rg {σ τ : St} (h : cdW σ τ) : rgw σ := by
  intro j
  rw [h.2.2.1 j, h.2.2.2.1 j]
  exact ⟨and3 _, and3 _⟩
theorem cdW.mv {σ τ σ' τ' : St} {co : Nat} (h : cdW σ τ) (h0 : ot0 σ σ' co) (h1 : ot1 τ τ' co) : cdW σ' τ' := by
  obtain ⟨e0, e1, e2, e3, e4, e5, e6⟩ := h
  refine ⟨by rw [h0.k (by decide), h1.k (by decide), e0], by rw [h0.k (by decide), h1.k (by decide), e1], ?_, ?_, by rw [h0.k (by decide), h1.k (by decide), e4], szw_sm h0.sm e5, ?_⟩
  · rw [h0.k (by decide), h1.k (by decide)]; exact e2
  · rw [h0.k (by decide), h1.k (by decide)]; exact e3
  · rw [h0.k (by decide)]; exact e6
theorem fix.sm {σ σ' : St} (h : fix σ) (hs : sm σ σ') : fix σ' := by
  intro f p hf hp hl
  rw [rdB_sm hs, hs.2.2.2.2.2]
  rw [hs.1] at hl
  exact h f p hf hp hl
theorem Frm.mv {σ τ σ' τ' : St} {g : Nat} {o : Int32} (h : Frm σ τ g o) (hs : sm σ σ') (h11 : σ' 11 g = σ 11 g) (h12 : σ' 12 g = σ 12 g) (h13 : ∀ i, i < 4 → σ' 13 (g * 4 + i) = σ 13 (g * 4 + i)) (t8 : τ' 8 g = τ 8 g) (t9 : τ' 9 g = τ 9 g) (t10 : τ' 10 g = τ 10 g) (t11 : ∀ i, i < 4 → τ' 11 (g * 4 + i) = τ 11 (g * 4 + i)) : Frm σ' τ' g o := by
  obtain ⟨f, p, hf, hp, hl, a1, a2, a3, a4, a5, a6, a7⟩ := h
  have hk := kp_sm hs f p
  refine ⟨f, p, hf, hp, by rw [hs.1]; exact hl, h11.trans a1, t8.trans a2, h12.trans a3, t9.trans a4, by rw [hs.2.1]; exact a5, ?_, ?_⟩
  · rw [t10, a6, hs.2.2.1, hs.2.2.2.1]
  · intro i hi hb
    rw [hk] at hb ⊢
    have := rk_le (kp σ f p) i
    rw [h13 _ (by omega), t11 i hi]
    exact a7 i hi hb
theorem Idle.mv {σ τ σ' τ' : St} {co c : Nat} (hc : c ≠ co) (h : Idle σ τ c) (h0 : ot0 σ σ' co) (h1 : ot1 τ τ' co) : Idle σ' τ' c := by
  have A : ∀ k, k = 7 ∨ k = 8 ∨ k = 9 ∨ k = 10 → σ' k c = σ k c := fun k hk => h0 k c (by unfold lo0; omega)
  have B : ∀ k i, k = 11 ∨ k = 12 → i < 4 → σ' k (c * 4 + i) = σ k (c * 4 + i) := fun k i hk hi => h0 k _ (by unfold lo0; omega)
  have C : ∀ i, i < 16 → σ' 13 (c * 16 + i) = σ 13 (c * 16 + i) := fun i hi => h0 13 _ (by unfold lo0; omega)
  have A1 : ∀ k, k = 4 ∨ k = 5 ∨ k = 6 ∨ k = 7 → τ' k c = τ k c := fun k hk => h1 k c (by unfold lo1; omega)
  have B1 : ∀ k i, k = 8 ∨ k = 9 ∨ k = 10 → i < 4 → τ' k (c * 4 + i) = τ k (c * 4 + i) := fun k i hk hi => h1 k _ (by unfold lo1; omega)
  have C1 : ∀ i, i < 16 → τ' 11 (c * 16 + i) = τ 11 (c * 16 + i) := fun i hi => h1 11 _ (by unfold lo1; omega)
  have F : ∀ i o, i < 4 → Frm σ τ (c * 4 + i) o → Frm σ' τ' (c * 4 + i) o := by
    intro i o hi hF
    refine hF.mv h0.sm (B 11 i (by omega) hi) (B 12 i (by omega) hi) (fun r hr => ?_) (B1 8 i (by omega) hi) (B1 9 i (by omega) hi) (B1 10 i (by omega) hi) (fun r hr => ?_)
    · have := C (i * 4 + r) (by omega)
      rwa [show c * 16 + (i * 4 + r) = (c * 4 + i) * 4 + r by omega] at this
    · have := C1 (i * 4 + r) (by omega)
      rwa [show c * 16 + (i * 4 + r) = (c * 4 + i) * 4 + r by omega] at this
  obtain ⟨e7, e8, e9, e10, hs⟩ := h
  refine ⟨by rw [A 7 (by omega), A1 4 (by omega), e7], by rw [A 8 (by omega), A1 5 (by omega), e8], by rw [A 9 (by omega), A1 6 (by omega), e9], by rw [A 10 (by omega), A1 7 (by omega), e10], ?_⟩
  rw [A 7 (by omega)]
  rcases hs with h | h | h | ⟨h, hd, f, hf, a1, a2, a3, a4, a5, a6, a7, a8⟩ | ⟨h, h5, d, hd, ed, hF, hT⟩
  · exact Or.inl h
  · exact Or.inr (Or.inl h)
  · exact Or.inr (Or.inr (Or.inl h))
  · refine Or.inr (Or.inr (Or.inr (Or.inl ⟨h, by rw [A 10 (by omega)]; exact hd, f, hf, (B 11 0 (by omega) (by omega)).trans a1, (B1 8 0 (by omega) (by omega)).trans a2, (B 12 0 (by omega) (by omega)).trans a3, (B1 9 0 (by omega) (by omega)).trans a4, ?_, ?_, ?_, ?_⟩)))
    · exact (C 0 (by omega)).trans (a5.trans (C1 0 (by omega)).symm)
    · exact (C1 1 (by omega)).trans a6
    · exact (C1 2 (by omega)).trans a7
    · exact (C1 3 (by omega)).trans a8
  · refine Or.inr (Or.inr (Or.inr (Or.inr ⟨h, by rw [h0.k (by decide)]; exact h5, d, hd, by rw [A 10 (by omega)]; exact ed, fun i hi => F i 6 (by omega) (hF i hi), F d 5 hd hT⟩)))
end
section
set_option maxRecDepth 100000
theorem kp_bit {σ : St} {f p a i : Nat} (hx : (if σ 1 (f * 8 + p) = 5 then σ 3 (f * 8 + p) else σ 2 (f * 8 + p)) = nI a) (ha : a < 4) (hi : i < 4) : bt (kp σ f p) i = (bt (rdA σ f (nI (p + 1))) i && !decide (i = a)) := by
  rw [kp, hx, b_and, b_not _ (by omega), b_bm a ha i (by omega)]
theorem fin0_at (σ : St) (co : Nat) (st v : Int32) : fin0 σ co st v 7 co = st ∧ fin0 σ co st v 8 co = v ∧ fin0 σ co st v 10 co = 0 := by
  unfold fin0
  refine ⟨?_, ?_, su_eq⟩
  · rw [su_oth (by omega), su_oth (by omega), su_eq]
  · rw [su_oth (by omega), su_eq]
theorem en_at (τ : St) (co : Nat) (st v : Int32) : en τ co st v 4 co = st ∧ en τ co st v 5 co = v ∧ en τ co st v 7 co = 0 := by
  unfold en
  refine ⟨?_, ?_, su_eq⟩
  · rw [su_oth (by omega), su_oth (by omega), su_eq]
  · rw [su_oth (by omega), su_eq]
theorem RunB.gt {σ τ : St} {co d : Nat} (h : RunB σ τ co d) : gtw τ co d := by
  intro h0
  obtain ⟨hc, -, -, -, -, -, -, -, hF⟩ := h
  obtain ⟨f, p, -, -, -, -, -, -, -, -, a6, -⟩ := hF (d - 1) (by omega)
  rw [if_neg (by decide)] at a6
  obtain ⟨⟨r, hr, er⟩, -⟩ := hc.rg (f * 8 + p)
  exact ⟨r, hr, a6.trans er⟩
theorem RunB.fr {σ τ : St} {co d : Nat} (h : RunB σ τ co d) : frw σ co d := by
  intro h0
  obtain ⟨-, -, -, -, -, -, -, -, hF⟩ := h
  obtain ⟨f, p, hf, hp, -, a1, -, a3, -⟩ := hF (d - 1) (by omega)
  exact ⟨f, p, hf, hp, a1, a3⟩
/-- the last frame returns v -/
theorem gb_sim {σ τ : St} {co d : Nat} (v : Int32) (h : RunB σ τ co d) : (d = 0 ∧ Stpd (gb σ co d v) (ba τ co d v) co) ∨ ∃ d', d = d' + 1 ∧ Run (gb σ co d v) (ba τ co d v) co d' := by
  have h0 := ot0_gb (σ := σ) (co := co) (d := d) v
  have h1 := ot1_ba (τ := τ) v h.2.2.1 h.gt (ot1_rf τ co)
  have hcd := h.1.mv h0 h1
  have hfx := h.2.1.sm h0.sm
  obtain ⟨hc, hx, hd, s7, t4, s8, s10, t7, hF⟩ := h
  by_cases hz : d = 0
  · refine Or.inl ⟨hz, hcd, hfx, ?_⟩
    subst hz
    rw [gb, if_pos rfl, ba, if_pos rfl]
    obtain ⟨a1, a2, a3⟩ := fin0_at (su σ 10 co 0) co 3 v
    obtain ⟨b1, b2, b3⟩ := en_at (su τ 7 co 0) co 3 v
    exact ⟨a1.trans b1.symm, a2.trans b2.symm, a3.trans b3.symm, Or.inl a1⟩
  · obtain ⟨e, rfl⟩ : ∃ e, d = e + 1 := ⟨d - 1, by omega⟩
    refine Or.inr ⟨e, rfl, ?_⟩
    obtain ⟨f, p, hf, hp, hl, a1, a2, a3, a4, a5, a6, a7⟩ := hF e (by omega)
    rw [if_neg (by decide)] at a6
    obtain ⟨⟨r, hr, er⟩, -⟩ := hc.rg (f * 8 + p)
    have hkx : (if σ 1 (f * 8 + p) = 5 then σ 3 (f * 8 + p) else σ 2 (f * 8 + p)) = nI r := by
      rw [a5, if_neg (by decide)]; exact er
    have eG : gb σ co (e + 1) v = su (su (up0 (su σ 10 co (nI (e + 1))) (co * 4 + e)) 16 r v) 15 0 (nI (p + 1)) := by
      rw [gb, if_neg hz, gb1, show co * 4 + (e + 1 - 1) = co * 4 + e from rfl, show (su σ 10 co (nI (e + 1))) 11 (co * 4 + e) = nI f from a1, show (su σ 10 co (nI (e + 1))) 12 (co * 4 + e) = nI p from a3, cn_nI (by omega), cn_nI (by omega), show (su σ 10 co (nI (e + 1))) 2 (f * 8 + p) = nI r from er, cn_nI (by omega), nI_1]
    have eB : ba τ co (e + 1) v = su (su τ 7 co (nI (e + 1))) 11 ((co * 4 + e) * 4 + r) v := by
      rw [ba, if_neg hz, show co * 4 + (e + 1 - 1) = co * 4 + e from rfl, a6, er, cn_nI (by omega)]
    rw [eG] at h0 hcd hfx ⊢
    rw [eB] at h1 hcd ⊢
    have hs := h0.sm
    have ne : ∀ k, k ≠ 10 → k ≠ 14 → k ≠ 15 → k ≠ 16 → ∀ i, (su (su (up0 (su σ 10 co (nI (e + 1))) (co * 4 + e)) 16 r v) 15 0 (nI (p + 1))) k i = σ k i := by
      intro k n1 n2 n3 n4 i
      rw [su_oth (by omega), su_oth (by omega), up0_ne _ _ n4, up1_ne _ _ n2 n3 n4, su_oth (by omega)]
    refine ⟨⟨hcd, hfx, by omega, ?_, ?_, ?_, ?_, ?_, ?_⟩, f, hf, ?_, ?_, ?_, ?_⟩
    · rw [ne 7 (by decide) (by decide) (by decide) (by decide)]; exact s7
    · rw [su_oth (by omega), su_oth (by omega)]; exact t4
    · rw [ne 8 (by decide) (by decide) (by decide) (by decide), su_oth (by omega), su_oth (by omega)]; exact s8
    · rw [su_oth (by omega), su_oth (by omega), up0_ne _ _ (by decide), up1_ne _ _ (by decide) (by decide) (by decide), su_eq]
    · rw [su_oth (by omega), su_eq]
    · intro i hi
      refine (hF i (by omega)).mv hs (ne 11 (by decide) (by decide) (by decide) (by decide) _) (ne 12 (by decide) (by decide) (by decide) (by decide) _) (fun j _ => ne 13 (by decide) (by decide) (by decide) (by decide) _) ?_ ?_ ?_ (fun j hj => ?_)
      · rw [su_oth (by omega), su_oth (by omega)]
      · rw [su_oth (by omega), su_oth (by omega)]
      · rw [su_oth (by omega), su_oth (by omega)]
      · rw [su_oth (by omega), su_oth (by omega)]
    · rw [su_oth (by omega), su_oth (by omega), up0_14, su_oth (by omega)]; exact a1
    · rw [su_oth (by omega), su_oth (by omega)]; exact a2
    · rw [su_eq, su_oth (by omega), su_oth (by omega)]; exact a4.symm
    · intro i hi hb
      rw [su_eq, rdA_sm hs] at hb
      show su (su (up0 (su σ 10 co (nI (e + 1))) (co * 4 + e)) 16 r v) 15 0 (nI (p + 1)) 16 i = su (su τ 7 co (nI (e + 1))) 11 ((co * 4 + e) * 4 + r) v 11 ((co * 4 + e) * 4 + i)
      by_cases hir : i = r
      · subst hir
        rw [su_oth (by omega), su_eq, su_eq]
      · have hk : bt (kp σ f p) i = true := by
          rw [kp_bit hkx hr hi, hb]
          simp [hir]
        have hk1 : kp (su σ 10 co (nI (e + 1))) f p = kp σ f p := kp_sm (sm_su (sm_rf σ) (by decide)) f p
        rw [su_oth (by omega), su_oth (by omega), up0_in (su σ 10 co (nI (e + 1))) hf hp a1 a3 hi (by rw [hk1]; exact hk), hk1, su_oth (by omega), a7 i hi hk, su_oth (by omega), su_oth (by omega)]
end
section
set_option maxRecDepth 100000
theorem rem3 (c : Int32) : c - c / 3 * 3 = -2 ∨ c - c / 3 * 3 = -1 ∨ c - c / 3 * 3 = 0 ∨ c - c / 3 * 3 = 1 ∨ c - c / 3 * 3 = 2 := by
  have h3 : (3 : Int32).toInt = 3 := by decide
  have hr : (c - c / 3 * 3).toInt = c.toInt.tmod 3 := by
    have b1 := Int.tmod_lt_of_pos c.toInt (b := 3) (by decide)
    have b2 := Int.lt_tmod_of_pos c.toInt (b := 3) (by decide)
    have hd := Int.tmod_def c.toInt 3
    rw [Int32.toInt_sub, Int32.toInt_mul, Int32.toInt_div_of_ne_right _ _ (by decide), h3, Int.sub_bmod_bmod, Int.mul_comm, ← hd]
    exact Int.bmod_eq_of_le (by omega) (by omega)
  have b1 := Int.tmod_lt_of_pos c.toInt (b := 3) (by decide)
  have b2 := Int.lt_tmod_of_pos c.toInt (b := 3) (by decide)
  have e : ∀ k : Int32, (c - c / 3 * 3).toInt = k.toInt → c - c / 3 * 3 = k := fun k h => Int32.toInt_inj.mp h
  rcases (show c.toInt.tmod 3 = -2 ∨ c.toInt.tmod 3 = -1 ∨ c.toInt.tmod 3 = 0 ∨ c.toInt.tmod 3 = 1 ∨ c.toInt.tmod 3 = 2 by omega) with h | h | h | h | h
  · exact Or.inl (e _ (by rw [hr, h]; decide))
  · exact Or.inr (Or.inl (e _ (by rw [hr, h]; decide)))
  · exact Or.inr (Or.inr (Or.inl (e _ (by rw [hr, h]; decide))))
  · exact Or.inr (Or.inr (Or.inr (Or.inl (e _ (by rw [hr, h]; decide)))))
  · exact Or.inr (Or.inr (Or.inr (Or.inr (e _ (by rw [hr, h]; decide)))))
theorem md3_mm3 (c : Int32) : md3 c = mm3 c ∧ ∃ k, k < 3 ∧ md3 c = nI k := by
  unfold md3 mm3
  rcases rem3 c with h | h | h | h | h <;> rw [h]
  · exact ⟨by decide, 1, by decide, by decide⟩
  · exact ⟨by decide, 2, by decide, by decide⟩
  · exact ⟨by decide, 0, by decide, by decide⟩
  · exact ⟨by decide, 1, by decide, by decide⟩
  · exact ⟨by decide, 2, by decide, by decide⟩
theorem su_su (σ : St) (k i : Nat) (v w : Int32) : su (su σ k i v) k i w = su σ k i w := by
  funext k' i'
  by_cases h : k' = k ∧ i' = i
  · obtain ⟨rfl, rfl⟩ := h
    rw [su_eq, su_eq]
  · rw [su_oth (by omega), su_oth (by omega), su_oth (by omega)]
theorem RunB.mv {σ τ σ' τ' : St} {co d : Nat} (h : RunB σ τ co d) (h0 : ot0 σ σ' co) (h1 : ot1 τ τ' co) (s7 : σ' 7 co = σ 7 co) (s8 : σ' 8 co = σ 8 co) (s10 : σ' 10 co = σ 10 co) (t4 : τ' 4 co = τ 4 co) (t5 : τ' 5 co = τ 5 co) (t7 : τ' 7 co = τ 7 co)
    (F : ∀ i, i < d → (σ' 11 (co * 4 + i) = σ 11 (co * 4 + i) ∧ σ' 12 (co * 4 + i) = σ 12 (co * 4 + i) ∧ ∀ j, j < 4 → σ' 13 ((co * 4 + i) * 4 + j) = σ 13 ((co * 4 + i) * 4 + j)) ∧ (τ' 8 (co * 4 + i) = τ 8 (co * 4 + i) ∧ τ' 9 (co * 4 + i) = τ 9 (co * 4 + i) ∧ τ' 10 (co * 4 + i) = τ 10 (co * 4 + i) ∧ ∀ j, j < 4 → τ' 11 ((co * 4 + i) * 4 + j) = τ 11 ((co * 4 + i) * 4 + j))) : RunB σ' τ' co d := by
  obtain ⟨hc, hx, hd, a7, b4, a8, a10, b7, hF⟩ := h
  refine ⟨hc.mv h0 h1, hx.sm h0.sm, hd, s7.trans a7, t4.trans b4, by rw [s8, t5, a8], s10.trans a10, t7.trans b7, fun i hi => ?_⟩
  obtain ⟨⟨f1, f2, f3⟩, g1, g2, g3, g4⟩ := F i hi
  exact (hF i hi).mv h0.sm f1 f2 f3 g1 g2 g3 g4
/-- the place at work, and what is live there -/
theorem Run.pl {σ τ : St} {co d : Nat} (h : Run σ τ co d) (hp : pe σ = 0) : ∃ f p, f < 3 ∧ p < 8 ∧ nI p < σ 0 f ∧ σ 14 0 = nI f ∧ σ 15 0 = nI p ∧ τ 8 (co * 4 + d) = nI f ∧ τ 9 (co * 4 + d) = nI p ∧ ag (rdB σ f p) (σ 16) (fun i => τ 11 ((co * 4 + d) * 4 + i)) := by
  obtain ⟨⟨hc, hx, hd, a7, b4, a8, a10, b7, hF⟩, f, hf, ef, tf, ep, hag⟩ := h
  unfold pe at hp
  by_cases c1 : σ 15 0 < 0
  · rw [if_pos c1] at hp; cases hp
  · rw [if_neg c1, ef, cn_nI (by omega)] at hp
    by_cases c2 : σ 15 0 < σ 0 f
    · obtain ⟨p, hp8, e⟩ := sz_ix hc.2.2.2.2.2.1 c1 c2
      rw [e] at c2
      refine ⟨f, p, hf, hp8, c2, ef, e, tf, ep.symm.trans e, ?_⟩
      have hr : rdA σ f (σ 15 0) = rdB σ f p := by
        rw [e, rdA, if_neg (nI_pos (by omega)), if_pos c2, cn_nI (by omega), hx f p hf hp8 c2]
      rw [hr] at hag
      exact hag
    · rw [if_neg c2] at hp; cases hp
theorem Run.stp_eq {σ τ : St} {co d f p : Nat} (h : Run σ τ co d) (hf : f < 3) (hp : p < 8) (ef : σ 14 0 = nI f) (ep : σ 15 0 = nI p) (tf : τ 8 (co * 4 + d) = nI f) (tp : τ 9 (co * 4 + d) = nI p) : stp σ co = prf σ co d f p ∧ ct1 τ co = ct τ co d f p := by
  obtain ⟨⟨hc, hx, hd, a7, b4, a8, a10, b7, hF⟩, -⟩ := h
  have ht : tg τ co = co * 4 + d := by rw [tg, b7, cn_nI (by omega)]; rfl
  refine ⟨?_, ?_⟩
  · rw [stp, a10, ef, ep, cn_nI (by omega), cn_nI (by omega), cn_nI (by omega)]; rfl
  · rw [ct1, ht, b7, tf, tp, cn_nI (by omega), cn_nI (by omega), cn_nI (by omega)]; rfl
/-- an instruction that sets register a -/
theorem upd_sim {σ τ : St} {co d f p a : Nat} {v : Int32} (h : RunB σ τ co d) (hf : f < 3) (ef : σ 14 0 = nI f) (tf : τ 8 (co * 4 + d) = nI f) (ha : a < 4) (hag : ∀ i, i < 4 → i ≠ a → bt (rdA σ f (nI (p + 1))) i = true → σ 16 i = τ 11 ((co * 4 + d) * 4 + i)) :
    Run (su (su σ 16 a v) 15 0 (nI (p + 1))) (su (su τ 9 (co * 4 + d) (nI (p + 1))) 11 ((co * 4 + d) * 4 + a) v) co d := by
  have hd := h.2.2.1
  have h0 : ot0 σ (su (su σ 16 a v) 15 0 (nI (p + 1))) co := ot0_su (ot0_su (ot0_rf σ co) (by unfold lo0; omega)) (by unfold lo0; omega)
  have h1 : ot1 τ (su (su τ 9 (co * 4 + d) (nI (p + 1))) 11 ((co * 4 + d) * 4 + a) v) co := ot1_su (ot1_su (ot1_rf τ co) (by unfold lo1; omega)) (by unfold lo1; omega)
  have n0 : ∀ k i, k ≠ 15 → k ≠ 16 → (su (su σ 16 a v) 15 0 (nI (p + 1))) k i = σ k i := fun k i n1 n2 => by rw [su_oth (by omega), su_oth (by omega)]
  have n1 : ∀ k i, k ≠ 9 → k ≠ 11 → (su (su τ 9 (co * 4 + d) (nI (p + 1))) 11 ((co * 4 + d) * 4 + a) v) k i = τ k i := fun k i n1 n2 => by rw [su_oth (by omega), su_oth (by omega)]
  refine ⟨h.mv h0 h1 (n0 _ _ (by decide) (by decide)) (n0 _ _ (by decide) (by decide)) (n0 _ _ (by decide) (by decide)) (n1 _ _ (by decide) (by decide)) (n1 _ _ (by decide) (by decide)) (n1 _ _ (by decide) (by decide)) (fun i hi => ⟨⟨n0 _ _ (by decide) (by decide), n0 _ _ (by decide) (by decide), fun j hj => n0 _ _ (by decide) (by decide)⟩, n1 _ _ (by decide) (by decide), ?_, n1 _ _ (by decide) (by decide), fun j hj => ?_⟩), f, hf, ?_, ?_, ?_, ?_⟩
  · rw [su_oth (by omega), su_oth (by omega)]
  · rw [su_oth (by omega), su_oth (by omega)]
  · rw [n0 _ _ (by decide) (by decide)]; exact ef
  · rw [n1 _ _ (by decide) (by decide)]; exact tf
  · rw [su_eq, su_oth (by omega), su_eq]
  · intro i hi hb
    rw [su_eq, rdA_sm h0.sm] at hb
    show su (su σ 16 a v) 15 0 (nI (p + 1)) 16 i = su (su τ 9 (co * 4 + d) (nI (p + 1))) 11 ((co * 4 + d) * 4 + a) v 11 ((co * 4 + d) * 4 + i)
    by_cases hia : i = a
    · subst hia
      rw [su_oth (by omega), su_eq, su_eq]
    · rw [su_oth (by omega), su_oth (by omega), su_oth (by omega), su_oth (by omega)]
      exact hag i hi hia hb
/-- a jump to P -/
theorem jmp_sim {σ τ : St} {co d f : Nat} {P : Int32} (h : RunB σ τ co d) (hf : f < 3) (ef : σ 14 0 = nI f) (tf : τ 8 (co * 4 + d) = nI f) (hag : ∀ i, i < 4 → bt (rdA σ f P) i = true → σ 16 i = τ 11 ((co * 4 + d) * 4 + i)) :
    Run (su σ 15 0 P) (su τ 9 (co * 4 + d) P) co d := by
  have hd := h.2.2.1
  have h0 : ot0 σ (su σ 15 0 P) co := ot0_su (ot0_rf σ co) (by unfold lo0; omega)
  have h1 : ot1 τ (su τ 9 (co * 4 + d) P) co := ot1_su (ot1_rf τ co) (by unfold lo1; omega)
  have n0 : ∀ k i, k ≠ 15 → (su σ 15 0 P) k i = σ k i := fun k i n1 => su_oth (by omega)
  have n1 : ∀ k i, k ≠ 9 → (su τ 9 (co * 4 + d) P) k i = τ k i := fun k i n1 => su_oth (by omega)
  refine ⟨h.mv h0 h1 (n0 _ _ (by decide)) (n0 _ _ (by decide)) (n0 _ _ (by decide)) (n1 _ _ (by decide)) (n1 _ _ (by decide)) (n1 _ _ (by decide)) (fun i hi => ⟨⟨n0 _ _ (by decide), n0 _ _ (by decide), fun j hj => n0 _ _ (by decide)⟩, n1 _ _ (by decide), ?_, n1 _ _ (by decide), fun j hj => n1 _ _ (by decide)⟩), f, hf, ?_, ?_, ?_, ?_⟩
  · rw [su_oth (by omega)]
  · rw [n0 _ _ (by decide)]; exact ef
  · rw [n1 _ _ (by decide)]; exact tf
  · rw [su_eq, su_eq]
  · intro i hi hb
    rw [su_eq, rdA_sm h0.sm] at hb
    show su σ 15 0 P 16 i = su τ 9 (co * 4 + d) P 11 ((co * 4 + d) * 4 + i)
    rw [su_oth (by omega), su_oth (by omega)]
    exact hag i hi hb
end
section
set_option maxRecDepth 100000
/-- what a frame keeps at an instruction of kind 5 or 6 is live there -/
theorem kp_rdB {σ : St} {f p a b i : Nat} (ea : σ 2 (f * 8 + p) = nI a) (ha : a < 4) (eb : σ 3 (f * 8 + p) = nI b) (hb : b < 4) (ho : σ 1 (f * 8 + p) = 5 ∨ σ 1 (f * 8 + p) = 6) (hi : i < 4) (h : bt (kp σ f p) i = true) : bt (rdB σ f p) i = true := by
  rcases ho with o | o
  · rw [kp_bit (a := b) (by rw [o, if_pos rfl]; exact eb) hb hi] at h
    rw [rdB, o, if_neg (by decide), if_neg (by decide), if_neg (by decide), if_neg (by decide), if_neg (by decide), if_pos rfl, b_or, b_and, b_not _ (by omega), eb, b_bm b hb i (by omega), h]
    rfl
  · rw [kp_bit (a := a) (by rw [o, if_neg (by decide)]; exact ea) ha hi, Bool.and_eq_true] at h
    rw [rdB, o, if_neg (by decide), if_neg (by decide), if_neg (by decide), if_neg (by decide), if_neg (by decide), if_neg (by decide), if_pos rfl, b_or, h.1]
    rfl
/-- the instruction waits: its frame is packed -/
theorem pk_frm {σ τ S σ' τ' : St} {g f p a b : Nat} {o : Int32} (hf : f < 3) (hp : p < 8) (hl : nI p < σ 0 f) (ea : σ 2 (f * 8 + p) = nI a) (ha : a < 4) (eb : σ 3 (f * 8 + p) = nI b) (hb : b < 4) (eo : σ 1 (f * 8 + p) = o) (ho : o = 5 ∨ o = 6)
    (hag : ag (rdB σ f p) (σ 16) (fun i => τ 11 (g * 4 + i))) (hS : sm σ S) (h16 : S 16 = σ 16) (hs : sm σ σ') (h11 : σ' 11 g = pk S g f p 11 g) (h12 : σ' 12 g = pk S g f p 12 g) (h13 : ∀ i, i < 4 → σ' 13 (g * 4 + i) = pk S g f p 13 (g * 4 + i)) (t8 : τ' 8 g = nI f) (t9 : τ' 9 g = nI (p + 1)) (t10 : τ' 10 g = (if o = 5 then σ 3 (f * 8 + p) else σ 2 (f * 8 + p))) (t11 : ∀ i, i < 4 → τ' 11 (g * 4 + i) = τ 11 (g * 4 + i)) : Frm σ' τ' g o := by
  refine ⟨f, p, hf, hp, by rw [hs.1]; exact hl, h11.trans (pk_11 _ _ _ _), t8, h12.trans (pk_12 _ _ _ _), t9, by rw [hs.2.1]; exact eo, by rw [t10, hs.2.2.1, hs.2.2.2.1], ?_⟩
  intro i hi hbi
  rw [kp_sm hs] at hbi ⊢
  have hr := rk_le (kp σ f p) i
  have e := pk_in13 S g f p hi (by rw [kp_sm hS]; exact hbi)
  rw [kp_sm hS] at e
  rw [h13 _ (by omega), e, h16, t11 i hi]
  exact hag i hi (kp_rdB ea ha eb hb (by rw [eo]; exact ho) hi hbi)
theorem yld_sim {σ τ : St} {co d f p a b : Nat} {x y : Int32} (h : RunB σ τ co d) (hf : f < 3) (hp : p < 8) (hl : nI p < σ 0 f) (tf : τ 8 (co * 4 + d) = nI f) (ea : σ 2 (f * 8 + p) = nI a) (ha : a < 4) (eb : σ 3 (f * 8 + p) = nI b) (hb : b < 4) (eo : σ 1 (f * 8 + p) = 5)
    (hag : ag (rdB σ f p) (σ 16) (fun i => τ 11 ((co * 4 + d) * 4 + i))) (hxy : x = y) :
    Stpd (pk (su (su σ 7 co 2) 8 co x) (co * 4 + d) f p) (su (su (su (su τ 9 (co * 4 + d) (nI (p + 1))) 10 (co * 4 + d) (xB τ f p)) 4 co 2) 5 co y) co := by
  obtain ⟨hc, hx, hd, a7, b4, a8, a10, b7, hF⟩ := h
  have h0 : ot0 σ (pk (su (su σ 7 co 2) 8 co x) (co * 4 + d) f p) co := ot0_pk f p hd (ot0_su (ot0_su (ot0_rf σ co) (by unfold lo0; omega)) (by unfold lo0; omega))
  have h1 : ot1 τ (su (su (su (su τ 9 (co * 4 + d) (nI (p + 1))) 10 (co * 4 + d) (xB τ f p)) 4 co 2) 5 co y) co := ot1_su (ot1_su (ot1_su (ot1_su (ot1_rf τ co) (by unfold lo1; omega)) (by unfold lo1; omega)) (by unfold lo1; omega)) (by unfold lo1; omega)
  have n1 : ∀ k i, k ≠ 4 → k ≠ 5 → k ≠ 9 → k ≠ 10 → (su (su (su (su τ 9 (co * 4 + d) (nI (p + 1))) 10 (co * 4 + d) (xB τ f p)) 4 co 2) 5 co y) k i = τ k i := fun k i n1 n2 n3 n4 => by rw [su_oth (by omega), su_oth (by omega), su_oth (by omega), su_oth (by omega)]
  refine ⟨hc.mv h0 h1, hx.sm h0.sm, ?_, ?_, ?_, Or.inr (Or.inr ⟨?_, d, hd, ?_, ?_, ?_⟩)⟩
  · rw [pk_ne _ _ _ _ (by decide) (by decide) (by decide), su_oth (by omega), su_eq, su_oth (by omega), su_eq]
  · rw [pk_ne _ _ _ _ (by decide) (by decide) (by decide), su_eq, su_eq]; exact hxy
  · rw [pk_ne _ _ _ _ (by decide) (by decide) (by decide), su_oth (by omega), su_oth (by omega), n1 _ _ (by decide) (by decide) (by decide) (by decide), a10, b7]
  · rw [pk_ne _ _ _ _ (by decide) (by decide) (by decide), su_oth (by omega), su_eq]
  · rw [pk_ne _ _ _ _ (by decide) (by decide) (by decide), su_oth (by omega), su_oth (by omega)]; exact a10
  · intro i hi
    refine (hF i hi).mv h0.sm ?_ ?_ (fun j hj => ?_) (n1 _ _ (by decide) (by decide) (by decide) (by decide)) ?_ ?_ (fun j hj => n1 _ _ (by decide) (by decide) (by decide) (by decide))
    · rw [pk_11o _ _ _ _ (by omega), su_oth (by omega), su_oth (by omega)]
    · rw [pk_12o _ _ _ _ (by omega), su_oth (by omega), su_oth (by omega)]
    · rw [pk_out13 _ _ _ _ (by omega), su_oth (by omega), su_oth (by omega)]
    · rw [su_oth (by omega), su_oth (by omega), su_oth (by omega), su_oth (by omega)]
    · rw [su_oth (by omega), su_oth (by omega), su_oth (by omega), su_oth (by omega)]
  · refine pk_frm hf hp hl ea ha eb hb eo (Or.inl rfl) hag (sm_su (sm_su (sm_rf σ) (by decide)) (by decide)) ?_ h0.sm rfl rfl (fun i _ => rfl) ?_ ?_ ?_ (fun j hj => n1 _ _ (by decide) (by decide) (by decide) (by decide))
    · rw [su_ne (by decide), su_ne (by decide)]
    · rw [n1 _ _ (by decide) (by decide) (by decide) (by decide)]; exact tf
    · rw [su_oth (by omega), su_oth (by omega), su_oth (by omega), su_eq]
    · rw [su_oth (by omega), su_oth (by omega), su_eq, if_pos rfl, xB, hc.2.2.2.1]
/-- a call that finds room -/
theorem cal_sim {σ τ : St} {co d f p a b : Nat} {x y : Int32} (h : RunB σ τ co d) (hd3 : d < 3) (hf : f < 3) (hp : p < 8) (hl : nI p < σ 0 f) (tf : τ 8 (co * 4 + d) = nI f) (ea : σ 2 (f * 8 + p) = nI a) (ha : a < 4) (eb : σ 3 (f * 8 + p) = nI b) (hb : b < 4) (eo : σ 1 (f * 8 + p) = 6)
    (hag : ag (rdB σ f p) (σ 16) (fun i => τ 11 ((co * 4 + d) * 4 + i))) (hxy : x = y) :
    Run (su (zrL (su (su (su (pk σ (co * 4 + d) f p) 10 co (nI (d + 2))) 14 0 (md3 (σ 4 (f * 8 + p)))) 15 0 0) 4) 16 0 x) (pu (su (su τ 9 (co * 4 + d) (nI (p + 1))) 10 (co * 4 + d) (xA τ f p)) co (d + 1) (mm3 (τ 3 (f * 8 + p))) y) co (d + 1) := by
  obtain ⟨hc, hx, hd, a7, b4, a8, a10, b7, hF⟩ := h
  obtain ⟨em, k, hk, ek⟩ := md3_mm3 (σ 4 (f * 8 + p))
  rw [show τ 3 = σ 4 from hc.2.2.2.2.1.symm, ← em]
  have h0 : ot0 σ (su (zrL (su (su (su (pk σ (co * 4 + d) f p) 10 co (nI (d + 2))) 14 0 (md3 (σ 4 (f * 8 + p)))) 15 0 0) 4) 16 0 x) co := ot0_su (ot0_zrL (ot0_su (ot0_su (ot0_su (ot0_pk f p hd (ot0_rf σ co)) (by unfold lo0; omega)) (by unfold lo0; omega)) (by unfold lo0; omega)) 4) (by unfold lo0; omega)
  have h1 : ot1 τ (pu (su (su τ 9 (co * 4 + d) (nI (p + 1))) 10 (co * 4 + d) (xA τ f p)) co (d + 1) (md3 (σ 4 (f * 8 + p))) y) co := ot1_pu _ _ (by omega) (ot1_su (ot1_su (ot1_rf τ co) (by unfold lo1; omega)) (by unfold lo1; omega))
  have n0 : ∀ k i, k ≠ 10 → k ≠ 14 → k ≠ 15 → k ≠ 16 → (su (zrL (su (su (su (pk σ (co * 4 + d) f p) 10 co (nI (d + 2))) 14 0 (md3 (σ 4 (f * 8 + p)))) 15 0 0) 4) 16 0 x) k i = pk σ (co * 4 + d) f p k i := fun k i n1 n2 n3 n4 => by
    rw [su_oth (by omega), zrL_ne _ n4, su_oth (by omega), su_oth (by omega), su_oth (by omega)]
  have n1 : ∀ k i, k ≠ 7 → k ≠ 8 → k ≠ 9 → k ≠ 10 → k ≠ 11 → (pu (su (su τ 9 (co * 4 + d) (nI (p + 1))) 10 (co * 4 + d) (xA τ f p)) co (d + 1) (md3 (σ 4 (f * 8 + p))) y) k i = τ k i := fun k i n1 n2 n3 n4 n5 => by
    unfold pu
    rw [su_oth (by omega), su_oth (by omega), su_oth (by omega), su_oth (by omega), su_oth (by omega), su_oth (by omega), su_oth (by omega), su_oth (by omega), su_oth (by omega)]
  have m8 : ∀ i, i < d + 1 → (pu (su (su τ 9 (co * 4 + d) (nI (p + 1))) 10 (co * 4 + d) (xA τ f p)) co (d + 1) (md3 (σ 4 (f * 8 + p))) y) 8 (co * 4 + i) = τ 8 (co * 4 + i) := fun i hi => by
    unfold pu
    rw [su_oth (by omega), su_oth (by omega), su_oth (by omega), su_oth (by omega), su_oth (by omega), su_oth (by omega), su_oth (by omega), su_oth (by omega), su_oth (by omega)]
  have m11 : ∀ i, i < d + 1 → ∀ j, j < 4 → (pu (su (su τ 9 (co * 4 + d) (nI (p + 1))) 10 (co * 4 + d) (xA τ f p)) co (d + 1) (md3 (σ 4 (f * 8 + p))) y) 11 ((co * 4 + i) * 4 + j) = τ 11 ((co * 4 + i) * 4 + j) := fun i hi j hj => by
    unfold pu
    rw [su_oth (by omega), su_oth (by omega), su_oth (by omega), su_oth (by omega), su_oth (by omega), su_oth (by omega), su_oth (by omega), su_oth (by omega), su_oth (by omega)]
  have m9 : ∀ i, i < d + 1 → (pu (su (su τ 9 (co * 4 + d) (nI (p + 1))) 10 (co * 4 + d) (xA τ f p)) co (d + 1) (md3 (σ 4 (f * 8 + p))) y) 9 (co * 4 + i) = su τ 9 (co * 4 + d) (nI (p + 1)) 9 (co * 4 + i) := fun i hi => by
    unfold pu
    rw [su_oth (by omega), su_oth (by omega), su_oth (by omega), su_oth (by omega), su_oth (by omega), su_oth (by omega), su_oth (by omega), su_oth (by omega)]
  have m10 : ∀ i, i < d + 1 → (pu (su (su τ 9 (co * 4 + d) (nI (p + 1))) 10 (co * 4 + d) (xA τ f p)) co (d + 1) (md3 (σ 4 (f * 8 + p))) y) 10 (co * 4 + i) = su (su τ 9 (co * 4 + d) (nI (p + 1))) 10 (co * 4 + d) (xA τ f p) 10 (co * 4 + i) := fun i hi => by
    unfold pu
    rw [su_oth (by omega), su_oth (by omega), su_oth (by omega), su_oth (by omega), su_oth (by omega), su_oth (by omega), su_oth (by omega)]
  refine ⟨⟨hc.mv h0 h1, hx.sm h0.sm, by omega, ?_, ?_, ?_, ?_, ?_, ?_⟩, k, hk, ?_, ?_, ?_, ?_⟩
  · rw [n0 _ _ (by decide) (by decide) (by decide) (by decide), pk_ne _ _ _ _ (by decide) (by decide) (by decide)]; exact a7
  · rw [n1 _ _ (by decide) (by decide) (by decide) (by decide) (by decide)]; exact b4
  · rw [n0 _ _ (by decide) (by decide) (by decide) (by decide), pk_ne _ _ _ _ (by decide) (by decide) (by decide), n1 _ _ (by decide) (by decide) (by decide) (by decide) (by decide)]; exact a8
  · rw [su_oth (by omega), zrL_ne _ (by decide), su_oth (by omega), su_oth (by omega), su_eq]
  · unfold pu; rw [su_eq]
  · intro i hi
    by_cases hid : i = d
    · subst hid
      refine pk_frm hf hp hl ea ha eb hb eo (Or.inr rfl) hag (sm_rf σ) rfl h0.sm (n0 _ _ (by decide) (by decide) (by decide) (by decide)) (n0 _ _ (by decide) (by decide) (by decide) (by decide)) (fun j _ => n0 _ _ (by decide) (by decide) (by decide) (by decide)) ?_ ?_ ?_ (m11 i hi)
      · rw [m8 i hi]; exact tf
      · rw [m9 i hi, su_eq]
      · rw [m10 i hi, su_eq, if_neg (by decide), xA, hc.2.2.1]
    · refine (hF i (by omega)).mv h0.sm ?_ ?_ (fun j hj => ?_) (m8 i hi) ?_ ?_ (m11 i hi)
      · rw [n0 _ _ (by decide) (by decide) (by decide) (by decide), pk_11o _ _ _ _ (by omega)]
      · rw [n0 _ _ (by decide) (by decide) (by decide) (by decide), pk_12o _ _ _ _ (by omega)]
      · rw [n0 _ _ (by decide) (by decide) (by decide) (by decide), pk_out13 _ _ _ _ (by omega)]
      · rw [m9 i hi, su_oth (by omega)]
      · rw [m10 i hi, su_oth (by omega), su_oth (by omega)]
  · rw [su_oth (by omega), zrL_ne _ (by decide), su_oth (by omega), su_eq]; exact ek
  · unfold pu
    rw [su_oth (by omega), su_oth (by omega), su_oth (by omega), su_oth (by omega), su_oth (by omega), su_oth (by omega), su_eq]; exact ek
  · unfold pu
    rw [su_oth (by omega), zrL_ne _ (by decide), su_eq, su_oth (by omega), su_oth (by omega), su_oth (by omega), su_oth (by omega), su_oth (by omega), su_eq]
  · intro i hi _
    show su (zrL (su (su (su (pk σ (co * 4 + d) f p) 10 co (nI (d + 2))) 14 0 (md3 (σ 4 (f * 8 + p)))) 15 0 0) 4) 16 0 x 16 i = (pu (su (su τ 9 (co * 4 + d) (nI (p + 1))) 10 (co * 4 + d) (xA τ f p)) co (d + 1) (md3 (σ 4 (f * 8 + p))) y) 11 ((co * 4 + (d + 1)) * 4 + i)
    unfold pu
    rcases (show i = 0 ∨ i = 1 ∨ i = 2 ∨ i = 3 by omega) with rfl | rfl | rfl | rfl
    · rw [su_eq, su_oth (by omega), su_oth (by omega), su_oth (by omega), su_oth (by omega), show (co * 4 + (d + 1)) * 4 + 0 = (co * 4 + (d + 1)) * 4 from rfl, su_eq]; exact hxy
    · rw [su_oth (by omega), zrL_in _ 4 (by decide), su_oth (by omega), su_oth (by omega), su_oth (by omega), su_eq]
    · rw [su_oth (by omega), zrL_in _ 4 (by decide), su_oth (by omega), su_oth (by omega), su_eq]
    · rw [su_oth (by omega), zrL_in _ 4 (by decide), su_oth (by omega), su_eq]
end
section
set_option maxRecDepth 100000
/-- one instruction on both sides -/
theorem step_sim {σ τ : St} {co d : Nat} (h : Run σ τ co d) (hpe : pe σ = 0) : (∃ d', Run (stp σ co) (ct1 τ co) co d') ∨ Stpd (stp σ co) (ct1 τ co) co := by
  obtain ⟨f, p, hf, hp, hl, ef, ep, tf, tp, hag⟩ := h.pl hpe
  obtain ⟨e1, e2⟩ := h.stp_eq hf hp ef ep tf tp
  rw [e1, e2]
  have hB := h.1
  obtain ⟨hc, hx, hd, a7, b4, a8, a10, b7, hF⟩ := h.1
  obtain ⟨⟨a, ha, ea⟩, ⟨b, hb, eb⟩⟩ := hc.rg (f * 8 + p)
  have xa : xA τ f p = nI a := by rw [xA, ← hc.2.2.1]; exact ea
  have xb : xB τ f p = nI b := by rw [xB, ← hc.2.2.2.1]; exact eb
  have ca : cn (nI a) = a := cn_nI (by omega)
  have cb : cn (nI b) = b := cn_nI (by omega)
  have t1 : τ 1 = σ 1 := hc.2.1.symm
  have t3 : τ 3 = σ 4 := hc.2.2.2.2.1.symm
  obtain ⟨o, ho, eo⟩ := hc.2.2.2.2.2.2 (f * 8 + p)
  have lv : ∀ i, i < 4 → bt (rdB σ f p) i = true → σ 16 i = τ 11 ((co * 4 + d) * 4 + i) := hag
  rcases (show o = 0 ∨ o = 1 ∨ o = 2 ∨ o = 3 ∨ o = 4 ∨ o = 5 ∨ o = 6 ∨ o = 7 by omega) with rfl | rfl | rfl | rfl | rfl | rfl | rfl | rfl
  · have er : rdB σ f p = rdA σ f (nI (p + 1)) &&& (bm (nI a) ^^^ (-1)) := by rw [rdB, eo, if_pos (by decide), ea]
    rw [prf, eo, if_pos (by decide), ct, t1, eo, if_pos (by decide), t3, ea, xa, ca]
    refine Or.inl ⟨d, upd_sim hB hf ef tf ha fun i hi hia hbi => lv i hi ?_⟩
    rw [er, b_and, b_not _ (by omega), b_bm a ha i (by omega), hbi]
    simp [hia]
  · have er : rdB σ f p = rdA σ f (nI (p + 1)) ||| bm (nI a) ||| bm (nI b) := by rw [rdB, eo, if_neg (by decide), if_pos (by decide), ea, eb]
    have la := lv a ha (by rw [er, b_or, b_or, b_bm a ha a (by omega)]; simp)
    have lb := lv b hb (by rw [er, b_or, b_or, b_bm b hb b (by omega)]; simp)
    rw [prf, eo, if_neg (by decide), if_pos (by decide), ct, t1, eo, if_neg (by decide), if_pos (by decide), ea, eb, xa, xb, ca, cb, la, lb]
    refine Or.inl ⟨d, upd_sim hB hf ef tf ha fun i hi hia hbi => lv i hi ?_⟩
    rw [er, b_or, b_or, hbi]
    rfl
  · have er : rdB σ f p = rdA σ f (nI (p + 1)) ||| bm (nI a) ||| bm (nI b) := by rw [rdB, eo, if_neg (by decide), if_neg (by decide), if_pos (by decide), ea, eb]
    have la := lv a ha (by rw [er, b_or, b_or, b_bm a ha a (by omega)]; simp)
    have lb := lv b hb (by rw [er, b_or, b_or, b_bm b hb b (by omega)]; simp)
    rw [prf, eo, if_neg (by decide), if_neg (by decide), if_pos (by decide), ct, t1, eo, if_neg (by decide), if_neg (by decide), if_pos (by decide), ea, eb, xa, xb, ca, cb, la, lb]
    refine Or.inl ⟨d, upd_sim hB hf ef tf ha fun i hi hia hbi => lv i hi ?_⟩
    rw [er, b_or, b_or, hbi]
    rfl
  · have er : rdB σ f p = rdA σ f (σ 4 (f * 8 + p)) := by rw [rdB, eo, if_neg (by decide), if_neg (by decide), if_neg (by decide), if_pos (by decide)]
    rw [prf, eo, if_neg (by decide), if_neg (by decide), if_neg (by decide), if_pos (by decide), ct, t1, eo, if_neg (by decide), if_neg (by decide), if_neg (by decide), if_pos (by decide), t3, su_su]
    exact Or.inl ⟨d, jmp_sim hB hf ef tf fun i hi hbi => lv i hi (by rw [er]; exact hbi)⟩
  · have er : rdB σ f p = rdA σ f (nI (p + 1)) ||| bm (nI a) ||| rdA σ f (σ 4 (f * 8 + p)) := by rw [rdB, eo, if_neg (by decide), if_neg (by decide), if_neg (by decide), if_neg (by decide), if_pos (by decide), ea]
    have la := lv a ha (by rw [er, b_or, b_or, b_bm a ha a (by omega)]; simp)
    have p4 : prf σ co d f p = su σ 15 0 (if σ 16 a ≤ 0 then nI (p + 1) else σ 4 (f * 8 + p)) := by rw [prf, eo, if_neg (by decide), if_neg (by decide), if_neg (by decide), if_neg (by decide), if_pos (by decide), ea, ca]
    have c4 : ct τ co d f p = if τ 11 ((co * 4 + d) * 4 + a) ≤ 0 then su τ 9 (co * 4 + d) (nI (p + 1)) else su τ 9 (co * 4 + d) (σ 4 (f * 8 + p)) := by rw [ct, t1, eo, if_neg (by decide), if_neg (by decide), if_neg (by decide), if_neg (by decide), if_pos (by decide), t3, su_su, xa, ca]
    rw [p4, c4, la]
    by_cases hz : τ 11 ((co * 4 + d) * 4 + a) ≤ 0
    · rw [if_pos hz, if_pos hz]
      exact Or.inl ⟨d, jmp_sim hB hf ef tf fun i hi hbi => lv i hi (by rw [er, b_or, b_or, hbi]; rfl)⟩
    · rw [if_neg hz, if_neg hz]
      exact Or.inl ⟨d, jmp_sim hB hf ef tf fun i hi hbi => lv i hi (by rw [er, b_or, b_or, hbi]; simp)⟩
  · have er : rdB σ f p = (rdA σ f (nI (p + 1)) &&& (bm (nI b) ^^^ (-1))) ||| bm (nI a) := by rw [rdB, eo, if_neg (by decide), if_neg (by decide), if_neg (by decide), if_neg (by decide), if_neg (by decide), if_pos (by decide), ea, eb]
    have la := lv a ha (by rw [er, b_or, b_bm a ha a (by omega)]; simp)
    rw [prf, eo, if_neg (by decide), if_neg (by decide), if_neg (by decide), if_neg (by decide), if_neg (by decide), if_pos (by decide), ct, t1, eo, if_neg (by decide), if_neg (by decide), if_neg (by decide), if_neg (by decide), if_neg (by decide), if_pos (by decide), ea, xa, ca]
    exact Or.inr (yld_sim hB hf hp hl tf ea ha eb hb eo hag la)
  · have er : rdB σ f p = rdA σ f (nI (p + 1)) ||| bm (nI a) := by rw [rdB, eo, if_neg (by decide), if_neg (by decide), if_neg (by decide), if_neg (by decide), if_neg (by decide), if_neg (by decide), if_pos (by decide), ea]
    have la := lv a ha (by rw [er, b_or, b_bm a ha a (by omega)]; simp)
    have hot0 := ot0_prf (σ := σ) (co := co) f p hd
    have hot1 := ot1_ct (τ := τ) (co := co) f p hd hB.gt
    rw [prf, eo, if_neg (by decide), if_neg (by decide), if_neg (by decide), if_neg (by decide), if_neg (by decide), if_neg (by decide), if_pos (by decide)] at hot0 ⊢
    rw [ct, t1, eo, if_neg (by decide), if_neg (by decide), if_neg (by decide), if_neg (by decide), if_neg (by decide), if_neg (by decide), if_pos (by decide)] at hot1 ⊢
    by_cases hd3 : d = 3
    · rw [cl, if_pos (by omega)] at hot0 ⊢
      rw [if_pos hd3] at hot1 ⊢
      obtain ⟨x1, x2, x3⟩ := fin0_at σ co 4 0
      obtain ⟨y1, y2, y3⟩ := en_at (su τ 9 (co * 4 + d) (nI (p + 1))) co 4 0
      exact Or.inr ⟨hc.mv hot0 hot1, hx.sm hot0.sm, x1.trans y1.symm, x2.trans y2.symm, x3.trans y3.symm, Or.inr (Or.inl x1)⟩
    · rw [cl, if_neg (by omega), if_neg hd3, ea, ca, show cn (xA τ f p) = a by rw [xa]; exact ca]
      exact Or.inl ⟨d + 1, cal_sim hB (by omega) hf hp hl tf ea ha eb hb eo hag la⟩
  · have er : rdB σ f p = bm (nI a) := by rw [rdB, eo, if_neg (by decide), if_neg (by decide), if_neg (by decide), if_neg (by decide), if_neg (by decide), if_neg (by decide), if_neg (by decide), ea]
    have la := lv a ha (by rw [er, b_bm a ha a (by omega)]; simp)
    rw [prf, eo, if_neg (by decide), if_neg (by decide), if_neg (by decide), if_neg (by decide), if_neg (by decide), if_neg (by decide), if_neg (by decide), ct, t1, eo, if_neg (by decide), if_neg (by decide), if_neg (by decide), if_neg (by decide), if_neg (by decide), if_neg (by decide), if_neg (by decide), if_pos (by decide), ea, xa, ca, la]
    have hB2 : RunB σ (su τ 9 (co * 4 + d) (nI (p + 1))) co d := by
      refine hB.mv (ot0_rf σ co) (ot1_su (ot1_rf τ co) (by unfold lo1; omega)) rfl rfl rfl (su_oth (by omega)) (su_oth (by omega)) (su_oth (by omega)) (fun i hi => ⟨⟨rfl, rfl, fun _ _ => rfl⟩, su_oth (by omega), su_oth (by omega), su_oth (by omega), fun j hj => su_oth (by omega)⟩)
    rcases gb_sim (τ 11 ((co * 4 + d) * 4 + a)) hB2 with ⟨-, q⟩ | ⟨d', -, q⟩
    · exact Or.inr q
    · exact Or.inl ⟨d', q⟩
end
section
set_option maxRecDepth 100000
def Endd (σ τ : St) (co : Nat) : Prop := Stpd σ τ co ∨ ∃ d, Run σ τ co d ∧ pe σ = 0
theorem Run.tge {σ τ : St} {co d : Nat} (h : Run σ τ co d) : tg τ co = co * 4 + d := by
  obtain ⟨⟨hc, hx, hd, a7, b4, a8, a10, b7, hF⟩, -⟩ := h
  rw [tg, b7, cn_nI (by omega)]
  rfl
theorem Run.pe_eq {σ τ : St} {co d : Nat} (h : Run σ τ co d) : pe1 τ co = pe σ := by
  have ht := h.tge
  obtain ⟨⟨hc, hx, hd, a7, b4, a8, a10, b7, hF⟩, f, hf, ef, tf, ep, hag⟩ := h
  rw [pe1, pe, ht, tf, ef, ep, hc.1]
theorem Stpd.n0 {σ τ : St} {co : Nat} (h : Stpd σ τ co) : σ 7 co ≠ 5 := by
  obtain ⟨-, -, -, -, -, h⟩ := h
  rcases h with h | h | ⟨h, -⟩ <;> (rw [h]; decide)
theorem Stpd.n1 {σ τ : St} {co : Nat} (h : Stpd σ τ co) : τ 4 co ≠ 1 := by
  obtain ⟨-, -, e, -, -, h⟩ := h
  rw [← e]
  rcases h with h | h | ⟨h, -⟩ <;> (rw [h]; decide)
theorem raL_id {σ : St} {co : Nat} (h : σ 7 co ≠ 5) : ∀ n, raL co n σ = σ
  | 0 => rfl
  | n + 1 => by rw [raL, if_neg h]
theorem foL_id {τ : St} {co : Nat} (h : τ 4 co ≠ 1) : ∀ n, foL co n τ = τ
  | 0 => rfl
  | n + 1 => by rw [foL, if_neg h]; exact foL_id h n
theorem foL_id' {τ : St} {co : Nat} (h : pe1 τ co = 0) : ∀ n, foL co n τ = τ
  | 0 => rfl
  | n + 1 => by
    rw [foL]
    split
    · split
      · exact foL_id' h n
      · exact foL_id' h n
    · exact foL_id' h n
theorem reL_id {τ : St} {co : Nat} (h : τ 4 co ≠ 1) : ∀ n, reL co n τ = τ
  | 0 => rfl
  | n + 1 => by rw [reL, if_neg h]; exact reL_id h n
theorem ba_6 (τ : St) (co d : Nat) (v : Int32) : ba τ co d v 6 = τ 6 := by
  unfold ba en
  split
  · rw [su_ne (by decide), su_ne (by decide), su_ne (by decide), su_ne (by decide)]
  · rw [su_ne (by decide), su_ne (by decide)]
theorem ct_6 (τ : St) (co d f p : Nat) : ct τ co d f p 6 = τ 6 := by
  have h9 : ∀ g v, su τ 9 g v 6 = τ 6 := fun g v => su_ne (by decide)
  unfold ct
  split
  · rw [su_ne (by decide), h9]
  split
  · rw [su_ne (by decide), h9]
  split
  · rw [su_ne (by decide), h9]
  split
  · rw [su_ne (by decide), h9]
  split
  · split
    · exact h9 _ _
    · rw [su_ne (by decide), h9]
  split
  · rw [su_ne (by decide), su_ne (by decide), su_ne (by decide), h9]
  split
  · split
    · unfold en
      rw [su_ne (by decide), su_ne (by decide), su_ne (by decide), h9]
    · unfold pu
      rw [su_ne (by decide), su_ne (by decide), su_ne (by decide), su_ne (by decide), su_ne (by decide), su_ne (by decide), su_ne (by decide), su_ne (by decide), h9]
  split
  · rw [ba_6, h9]
  · exact h9 _ _
theorem ra_sim {co : Nat} : ∀ n {d : Nat} {σ τ : St}, Run σ τ co d → d < n → Endd (raL co n σ) (foL co n τ) co ∧ ot0 σ (raL co n σ) co ∧ ot1 τ (foL co n τ) co ∧ foL co n τ 6 = τ 6
  | 0, _, _, _, _, h => absurd h (by omega)
  | n + 1, d, σ, τ, h, hd => by
    have hpe := h.pe_eq
    have ht := h.tge
    have h7 : σ 7 co = 5 := h.1.2.2.2.1
    have h4 : τ 4 co = 1 := h.1.2.2.2.2.1
    have h10 : σ 10 co = nI (d + 1) := h.1.2.2.2.2.2.2.1
    have t7 : τ 7 co = nI (d + 1) := h.1.2.2.2.2.2.2.2.1
    have hd4 := h.1.2.2.1
    by_cases hp : pe σ = 0
    · have e1 : raL co (n + 1) σ = σ := by rw [raL, if_pos h7, if_pos hp]
      have e2 : foL co (n + 1) τ = τ := foL_id' (by rw [hpe]; exact hp) _
      rw [e1, e2]
      exact ⟨Or.inr ⟨d, h, hp⟩, ot0_rf σ co, ot1_rf τ co, rfl⟩
    · have e1 : raL co (n + 1) σ = raL co n (gb σ co d 0) := by
        rw [raL, if_pos h7, if_neg hp, h10, cn_nI (by omega)]
        rfl
      have e2 : foL co (n + 1) τ = foL co n (ba τ co d 0) := by
        rw [foL, if_pos h4, if_neg (by rw [t7]; exact nI_nle (by omega) (by omega)), if_neg (by rw [hpe]; exact hp), t7, cn_nI (by omega)]
        rfl
      rw [e1, e2]
      have o0 := ot0_gb (σ := σ) (co := co) (d := d) 0
      have o1 := ot1_ba (τ := τ) 0 hd4 h.1.gt (ot1_rf τ co)
      rcases gb_sim 0 h.1 with ⟨-, hs⟩ | ⟨d', rfl, hr⟩
      · rw [raL_id hs.n0, foL_id hs.n1]
        exact ⟨Or.inl hs, o0, o1, ba_6 _ _ _ _⟩
      · obtain ⟨a, b, c, e⟩ := ra_sim n hr (by omega)
        exact ⟨a, o0.tr b, o1.tr c, e.trans (ba_6 _ _ _ _)⟩
theorem Run.mv6 {σ τ : St} {co d : Nat} {v : Int32} (h : Run σ τ co d) : Run σ (su τ 6 co v) co d := by
  refine ⟨h.1.mv (ot0_rf σ co) (ot1_su (ot1_rf τ co) (by unfold lo1; omega)) rfl rfl rfl (su_oth (by omega)) (su_oth (by omega)) (su_oth (by omega)) (fun i hi => ⟨⟨rfl, rfl, fun _ _ => rfl⟩, su_oth (by omega), su_oth (by omega), su_oth (by omega), fun j hj => su_oth (by omega)⟩), ?_⟩
  obtain ⟨-, f, hf, ef, tf, ep, hag⟩ := h
  refine ⟨f, hf, ef, by rw [su_oth (by omega)]; exact tf, by rw [su_oth (by omega)]; exact ep, fun i hi hb => ?_⟩
  show σ 16 i = su τ 6 co v 11 ((co * 4 + d) * 4 + i)
  rw [su_oth (by omega)]
  exact hag i hi hb
theorem Wtf.mv {σ τ σ' τ' : St} {co : Nat} (h : Wtf σ τ co) (hs : sm σ σ') (e10 : σ' 10 co = σ 10 co) (e11 : σ' 11 = σ 11) (e12 : σ' 12 = σ 12) (e13 : σ' 13 = σ 13) (t8 : τ' 8 = τ 8) (t9 : τ' 9 = τ 9) (t10 : τ' 10 = τ 10) (t11 : τ' 11 = τ 11) : Wtf σ' τ' co := by
  obtain ⟨d, hd, ed, hF, hT⟩ := h
  have F : ∀ g o, Frm σ τ g o → Frm σ' τ' g o := fun g o hF => hF.mv hs (by rw [e11]) (by rw [e12]) (fun _ _ => by rw [e13]) (by rw [t8]) (by rw [t9]) (by rw [t10]) (fun _ _ => by rw [t11])
  exact ⟨d, hd, by rw [e10]; exact ed, fun i hi => F _ _ (hF i hi), F _ _ hT⟩
theorem Stpd.mv6 {σ τ : St} {co : Nat} {v : Int32} (h : Stpd σ τ co) : Stpd σ (su τ 6 co v) co := by
  obtain ⟨hc, hx, e7, e8, e10, hs⟩ := h
  refine ⟨hc.mv (ot0_rf σ co) (ot1_su (ot1_rf τ co) (by unfold lo1; omega)), hx, by rw [su_oth (by omega)]; exact e7, by rw [su_oth (by omega)]; exact e8, by rw [su_oth (by omega)]; exact e10, ?_⟩
  rcases hs with h | h | ⟨h, hw⟩
  · exact Or.inl h
  · exact Or.inr (Or.inl h)
  · exact Or.inr (Or.inr ⟨h, hw.mv (sm_rf σ) rfl rfl rfl rfl (su_ne (by decide)) (su_ne (by decide)) (su_ne (by decide)) (su_ne (by decide))⟩)
theorem cy_sim {co : Nat} : ∀ k {σ τ : St} (n : Nat), Endd σ τ co → τ 6 co = nI n → Endd (cyL co k σ n).1 (reL co k τ) co ∧ reL co k τ 6 co = nI (cyL co k σ n).2 ∧ ot0 σ (cyL co k σ n).1 co ∧ ot1 τ (reL co k τ) co
  | 0, σ, τ, n, h, h6 => ⟨h, h6, ot0_rf σ co, ot1_rf τ co⟩
  | k + 1, σ, τ, n, h, h6 => by
    rcases h with hs | ⟨d, hr, hp⟩
    · rw [cyL, if_neg hs.n0, reL_id hs.n1]
      exact ⟨Or.inl hs, h6, ot0_rf σ co, ot1_rf τ co⟩
    · have h7 : σ 7 co = 5 := hr.1.2.2.2.1
      have h4 : τ 4 co = 1 := hr.1.2.2.2.2.1
      have hd := hr.1.2.2.1
      rw [cyL, if_pos h7, reL, if_pos h4]
      obtain ⟨f, p, hf, hp8, hl, ef, ep, tf, tp, -⟩ := hr.pl hp
      obtain ⟨e1, e2⟩ := hr.stp_eq hf hp8 ef ep tf tp
      have o0 : ot0 σ (stp σ co) co := by rw [e1]; exact ot0_prf f p hd
      have o1 : ot1 τ (ct1 τ co) co := by rw [e2]; exact ot1_ct f p hd hr.1.gt
      have s6 : ct1 τ co 6 = τ 6 := by rw [e2]; exact ct_6 _ _ _ _ _
      have key : Endd (raL co 4 (stp σ co)) (foL co 4 (ct1 τ co)) co ∧ ot0 σ (raL co 4 (stp σ co)) co ∧ ot1 τ (foL co 4 (ct1 τ co)) co ∧ foL co 4 (ct1 τ co) 6 = τ 6 := by
        rcases step_sim hr hp with ⟨d', hr'⟩ | hs
        · obtain ⟨a, b, c, e⟩ := ra_sim 4 hr' hr'.1.2.2.1
          exact ⟨a, o0.tr b, o1.tr c, e.trans s6⟩
        · rw [raL_id hs.n0, foL_id hs.n1]
          exact ⟨Or.inl hs, o0, o1, s6⟩
      obtain ⟨a, b, c, e⟩ := key
      have a' : Endd (raL co 4 (stp σ co)) (rn1 (foL co 4 (ct1 τ co)) co) co := by
        rcases a with hs | ⟨d', hr', hp'⟩
        · exact Or.inl hs.mv6
        · exact Or.inr ⟨d', hr'.mv6, hp'⟩
      have e6 : rn1 (foL co 4 (ct1 τ co)) co 6 co = nI (n + 1) := by
        rw [rn1, su_eq, e, h6]
        exact nI_1 n
      obtain ⟨x1, x2, x3, x4⟩ := cy_sim k (n + 1) a' e6
      exact ⟨x1, x2, b.tr x3, (c.tr (ot1_su (ot1_rf _ co) (by unfold lo1; omega))).tr x4⟩
/-- the end of a run -/
theorem end_sim {σ τ : St} {co n : Nat} (h : Endd σ τ co) (h6 : τ 6 co = nI n) (h5 : σ 5 0 = 1) : Idle (cyE co (σ, n)) (reE co τ) co ∧ ot0 σ (cyE co (σ, n)) co ∧ ot1 τ (reE co τ) co := by
  rcases h with hs | ⟨d, hr, -⟩
  · have e1 : cyE co (σ, n) = su σ 9 co (nI n) := by rw [cyE, if_neg hs.n0]
    have e2 : reE co τ = τ := by rw [reE, if_neg hs.n1]
    rw [e1, e2]
    refine ⟨?_, ot0_su (ot0_rf σ co) (by unfold lo0; omega), ot1_rf τ co⟩
    obtain ⟨hc, hx, e7, e8, e10, hs⟩ := hs
    refine ⟨by rw [su_oth (by omega)]; exact e7, by rw [su_oth (by omega)]; exact e8, by rw [su_eq, h6], by rw [su_oth (by omega)]; exact e10, ?_⟩
    rw [su_oth (by omega), su_oth (by omega)]
    rcases hs with h | h | ⟨h, hw⟩
    · exact Or.inr (Or.inl h)
    · exact Or.inr (Or.inr (Or.inl h))
    · exact Or.inr (Or.inr (Or.inr (Or.inr ⟨h, h5, hw.mv (sm_su (sm_rf σ) (by decide)) (su_oth (by omega)) (su_ne (by decide)) (su_ne (by decide)) (su_ne (by decide)) rfl rfl rfl rfl⟩)))
  · have e1 : cyE co (σ, n) = su (fin0 σ co 4 0) 9 co (nI n) := by rw [cyE, if_pos hr.1.2.2.2.1]
    have e2 : reE co τ = en τ co 4 0 := by rw [reE, if_pos hr.1.2.2.2.2.1]
    rw [e1, e2]
    refine ⟨?_, ot0_su (ot0_fin _ _ (ot0_rf σ co)) (by unfold lo0; omega), ot1_en _ _ (ot1_rf τ co)⟩
    obtain ⟨x1, x2, x3⟩ := fin0_at σ co 4 0
    obtain ⟨y1, y2, y3⟩ := en_at τ co 4 0
    refine ⟨by rw [su_oth (by omega), x1, y1], by rw [su_oth (by omega), x2, y2], ?_, by rw [su_oth (by omega), x3, y3], ?_⟩
    · unfold en
      rw [su_eq, su_oth (by omega), su_oth (by omega), su_oth (by omega), h6]
    · rw [su_oth (by omega), x1]
      exact Or.inr (Or.inr (Or.inl rfl))
end
section
set_option maxRecDepth 100000
/-- a coroutine that is ready or waits is taken up -/
theorem up_sim {σ τ : St} {co : Nat} (v : Int32) (hc : cdW σ τ) (hx : fix σ) (hI : Idle σ τ co) (hst : σ 7 co = 1 ∨ σ 7 co = 2) :
    ∃ d, co * 4 + (cn (σ 10 co) - 1) = co * 4 + d ∧ Run (su (su (go2 σ co v (co * 4 + d)) 7 co 5) 8 co 0) (su (su (su (re0 τ co v) 4 co 1) 5 co 0) 6 co 0) co d ∧ ot0 σ (go2 σ co v (co * 4 + d)) co ∧ ot1 τ (re0 τ co v) co := by
  obtain ⟨e7, e8, e9, e10, hs⟩ := hI
  rcases hs with h | h | h | ⟨h, hd, f, hf, a1, a2, a3, a4, a5, a6, a7, a8⟩ | ⟨h, h5, d, hd, ed, hF, f, p, hf, hp, hl, a1, a2, a3, a4, a5, a6, a7⟩
  · exact absurd h (by rcases hst with q | q <;> (rw [q]; decide))
  · exact absurd h (by rcases hst with q | q <;> (rw [q]; decide))
  · exact absurd h (by rcases hst with q | q <;> (rw [q]; decide))
  · refine ⟨0, by rw [hd]; rfl, ?_⟩
    have eg : go2 σ co v (co * 4 + 0) = su (up0 σ (co * 4)) 15 0 0 := by
      rw [go2, go1, if_neg (by rw [h]; decide), show co * 4 + 0 = co * 4 from rfl, a3]
      rfl
    have er : re0 τ co v = τ := by rw [re0, if_neg (by rw [← e7, h]; decide)]
    rw [eg, er]
    have o0 : ot0 σ (su (up0 σ (co * 4)) 15 0 0) co := ot0_su (ot0_up0 _ (ot0_rf σ co)) (by unfold lo0; omega)
    refine ⟨?_, o0, ot1_rf τ co⟩
    have o0' : ot0 σ (su (su (su (up0 σ (co * 4)) 15 0 0) 7 co 5) 8 co 0) co := ot0_su (ot0_su o0 (by unfold lo0; omega)) (by unfold lo0; omega)
    have o1' : ot1 τ (su (su (su τ 4 co 1) 5 co 0) 6 co 0) co := ot1_su (ot1_su (ot1_su (ot1_rf τ co) (by unfold lo1; omega)) (by unfold lo1; omega)) (by unfold lo1; omega)
    have u10 : up0 σ (co * 4) 10 co = σ 10 co := by rw [up0_ne _ _ (by decide), up1_ne _ _ (by decide) (by decide) (by decide)]
    refine ⟨⟨hc.mv o0' o1', hx.sm o0'.sm, by omega, by rw [su_oth (by omega), su_eq], by rw [su_oth (by omega), su_oth (by omega), su_eq], by rw [su_eq, su_oth (by omega), su_eq], ?_, ?_, fun i hi => absurd hi (by omega)⟩, f, hf, ?_, ?_, ?_, ?_⟩
    · rw [su_oth (by omega), su_oth (by omega), su_oth (by omega), u10, hd]; rfl
    · rw [su_oth (by omega), su_oth (by omega), su_oth (by omega), ← e10, hd]; rfl
    · rw [su_oth (by omega), su_oth (by omega), su_oth (by omega), up0_14]; exact a1
    · rw [su_oth (by omega), su_oth (by omega), su_oth (by omega)]; exact a2
    · rw [su_oth (by omega), su_oth (by omega), su_eq, su_oth (by omega), su_oth (by omega), su_oth (by omega)]; exact a4.symm
    · intro i hi _
      show su (su (su (up0 σ (co * 4)) 15 0 0) 7 co 5) 8 co 0 16 i = su (su (su τ 4 co 1) 5 co 0) 6 co 0 11 ((co * 4 + 0) * 4 + i)
      rw [su_oth (by omega), su_oth (by omega), su_oth (by omega), su_oth (by omega), su_oth (by omega), su_oth (by omega)]
      obtain ⟨u0, ui⟩ := up0_0 σ a3
      rcases (show i = 0 ∨ i = 1 ∨ i = 2 ∨ i = 3 by omega) with rfl | rfl | rfl | rfl
      · rw [u0, show co * 4 * 4 = co * 16 by omega, show (co * 4 + 0) * 4 + 0 = co * 16 by omega]; exact a5
      · rw [ui 1 (by omega) (by omega), show (co * 4 + 0) * 4 + 1 = co * 16 + 1 by omega]; exact a6.symm
      · rw [ui 2 (by omega) (by omega), show (co * 4 + 0) * 4 + 2 = co * 16 + 2 by omega]; exact a7.symm
      · rw [ui 3 (by omega) (by omega), show (co * 4 + 0) * 4 + 3 = co * 16 + 3 by omega]; exact a8.symm
  · refine ⟨d, by rw [ed, cn_nI (by omega)]; rfl, ?_⟩
    rw [if_pos rfl] at a6
    obtain ⟨-, ⟨r, hr, er⟩⟩ := hc.rg (f * 8 + p)
    have hkx : (if σ 1 (f * 8 + p) = 5 then σ 3 (f * 8 + p) else σ 2 (f * 8 + p)) = nI r := by
      rw [a5, if_pos rfl]; exact er
    have ht : tg τ co = co * 4 + d := by rw [tg, ← e10, ed, cn_nI (by omega)]; rfl
    have eg : go2 σ co v (co * 4 + d) = su (su (up0 σ (co * 4 + d)) 16 r v) 15 0 (nI (p + 1)) := by
      rw [go2, go1, if_pos h, a1, a3, cn_nI (by omega), cn_nI (by omega), er, cn_nI (by omega), nI_1]
    have ere : re0 τ co v = su τ 11 ((co * 4 + d) * 4 + r) v := by rw [re0, if_pos (by rw [← e7, h]), ht, a6, er, cn_nI (by omega)]
    rw [eg, ere]
    have o0 : ot0 σ (su (su (up0 σ (co * 4 + d)) 16 r v) 15 0 (nI (p + 1))) co := ot0_su (ot0_su (ot0_up0 _ (ot0_rf σ co)) (by unfold lo0; omega)) (by unfold lo0; omega)
    have o1 : ot1 τ (su τ 11 ((co * 4 + d) * 4 + r) v) co := ot1_su (ot1_rf τ co) (by unfold lo1; omega)
    refine ⟨?_, o0, o1⟩
    have o0' : ot0 σ (su (su (su (su (up0 σ (co * 4 + d)) 16 r v) 15 0 (nI (p + 1))) 7 co 5) 8 co 0) co := ot0_su (ot0_su o0 (by unfold lo0; omega)) (by unfold lo0; omega)
    have o1' : ot1 τ (su (su (su (su τ 11 ((co * 4 + d) * 4 + r) v) 4 co 1) 5 co 0) 6 co 0) co := ot1_su (ot1_su (ot1_su o1 (by unfold lo1; omega)) (by unfold lo1; omega)) (by unfold lo1; omega)
    have ne : ∀ k, k ≠ 7 → k ≠ 8 → k ≠ 14 → k ≠ 15 → k ≠ 16 → ∀ i, (su (su (su (su (up0 σ (co * 4 + d)) 16 r v) 15 0 (nI (p + 1))) 7 co 5) 8 co 0) k i = σ k i := by
      intro k n1 n2 n3 n4 n5 i
      rw [su_oth (by omega), su_oth (by omega), su_oth (by omega), su_oth (by omega), up0_ne _ _ n5, up1_ne _ _ n3 n4 n5]
    have nt : ∀ k, k ≠ 4 → k ≠ 5 → k ≠ 6 → k ≠ 11 → ∀ i, (su (su (su (su τ 11 ((co * 4 + d) * 4 + r) v) 4 co 1) 5 co 0) 6 co 0) k i = τ k i := by
      intro k n1 n2 n3 n4 i
      rw [su_oth (by omega), su_oth (by omega), su_oth (by omega), su_oth (by omega)]
    refine ⟨⟨hc.mv o0' o1', hx.sm o0'.sm, hd, by rw [su_oth (by omega), su_eq], by rw [su_oth (by omega), su_oth (by omega), su_eq], by rw [su_eq, su_oth (by omega), su_eq], ?_, ?_, ?_⟩, f, hf, ?_, ?_, ?_, ?_⟩
    · rw [ne 10 (by decide) (by decide) (by decide) (by decide) (by decide)]; exact ed
    · rw [nt 7 (by decide) (by decide) (by decide) (by decide), ← e10]; exact ed
    · intro i hi
      refine (hF i hi).mv o0'.sm (ne 11 (by decide) (by decide) (by decide) (by decide) (by decide) _) (ne 12 (by decide) (by decide) (by decide) (by decide) (by decide) _) (fun j _ => ne 13 (by decide) (by decide) (by decide) (by decide) (by decide) _) (nt 8 (by decide) (by decide) (by decide) (by decide) _) (nt 9 (by decide) (by decide) (by decide) (by decide) _) (nt 10 (by decide) (by decide) (by decide) (by decide) _) (fun j hj => ?_)
      rw [su_oth (by omega), su_oth (by omega), su_oth (by omega), su_oth (by omega)]
    · rw [su_oth (by omega), su_oth (by omega), su_oth (by omega), su_oth (by omega), up0_14]; exact a1
    · rw [nt 8 (by decide) (by decide) (by decide) (by decide)]; exact a2
    · rw [su_oth (by omega), su_oth (by omega), su_eq, nt 9 (by decide) (by decide) (by decide) (by decide)]; exact a4.symm
    · intro i hi hb
      rw [su_oth (by omega), su_oth (by omega), su_eq, rdA_sm o0'.sm] at hb
      show su (su (su (su (up0 σ (co * 4 + d)) 16 r v) 15 0 (nI (p + 1))) 7 co 5) 8 co 0 16 i = su (su (su (su τ 11 ((co * 4 + d) * 4 + r) v) 4 co 1) 5 co 0) 6 co 0 11 ((co * 4 + d) * 4 + i)
      rw [su_oth (by omega), su_oth (by omega), su_oth (by omega)]
      rw [su_oth (k' := 11) (by omega), su_oth (k' := 11) (by omega), su_oth (k' := 11) (by omega)]
      by_cases hir : i = r
      · subst hir
        rw [su_eq, su_eq]
      · have hk : bt (kp σ f p) i = true := by
          rw [kp_bit hkx hr hi, hb]
          simp [hir]
        rw [su_oth (by omega), su_oth (by omega), up0_in σ hf hp a1 a3 hi hk, a7 i hi hk]
/-- goOn against resume, the analysis being done -/
theorem go_sim1 {σ τ : St} {co : Nat} (v : Int32) (h : Inv σ τ) (h5 : σ 5 0 = 1) (hx : fix σ) (hco : co < 4) (hst : σ 7 co = 1 ∨ σ 7 co = 2) : Inv (cy (go2 σ co v (co * 4 + (cn (σ 10 co) - 1))) co) (re τ co v) := by
  obtain ⟨d, ed, hr, o0, o1⟩ := up_sim v h.1 hx (h.2.2 co hco) hst
  rw [ed]
  obtain ⟨q1, q2, q3, q4⟩ := ra_sim 4 hr hr.1.2.2.1
  have p0 : ot0 σ (raL co 4 (su (su (go2 σ co v (co * 4 + d)) 7 co 5) 8 co 0)) co := (ot0_su (ot0_su o0 (by unfold lo0; omega)) (by unfold lo0; omega)).tr q2
  have p1 : ot1 τ (foL co 4 (su (su (su (re0 τ co v) 4 co 1) 5 co 0) 6 co 0)) co := (ot1_su (ot1_su (ot1_su o1 (by unfold lo1; omega)) (by unfold lo1; omega)) (by unfold lo1; omega)).tr q3
  obtain ⟨r1, r2, r3, r4⟩ := cy_sim 80 0 q1 (by rw [q4, su_eq]; rfl)
  have c5 : (cyL co 80 (raL co 4 (su (su (go2 σ co v (co * 4 + d)) 7 co 5) 8 co 0)) 0).1 5 0 = 1 := by rw [(p0.tr r3).k (by decide)]; exact h5
  obtain ⟨s1, s2, s3⟩ := end_sim r1 r2 c5
  have z0 : ot0 σ (cy (go2 σ co v (co * 4 + d)) co) co := (p0.tr r3).tr s2
  have z1 : ot1 τ (re τ co v) co := (p1.tr r4).tr s3
  refine ⟨h.1.mv z0 z1, Or.inr ⟨by rw [z0.k (by decide)]; exact h5, hx.sm z0.sm⟩, fun c hc => ?_⟩
  by_cases hcc : c = co
  · subst hcc
    exact s1
  · exact (h.2.2 c hc).mv hcc z0 z1
end
section
set_option maxRecDepth 100000
/-! ===== the analysis comes to its fixpoint within 97 passes ===== -/
def lee (x y : Int32) : Prop := ∀ b, b < 32 → bt x b = true → bt y b = true
theorem lee_rf (x : Int32) : lee x x := fun _ _ h => h
theorem lee_or {x y u v : Int32} (h : lee x u) (h' : lee y v) : lee (x ||| y) (u ||| v) := by
  intro b hb hx
  rw [b_or, Bool.or_eq_true] at hx ⊢
  rcases hx with q | q
  · exact Or.inl (h b hb q)
  · exact Or.inr (h' b hb q)
theorem lee_and {x u : Int32} (y : Int32) (h : lee x u) : lee (x &&& y) (u &&& y) := by
  intro b hb hx
  rw [b_and, Bool.and_eq_true] at hx ⊢
  exact ⟨h b hb hx.1, hx.2⟩
theorem rdA_mono {σ σ' : St} (h0 : σ' 0 = σ 0) (h : ∀ i, lee (σ 6 i) (σ' 6 i)) (f : Nat) (P : Int32) : lee (rdA σ f P) (rdA σ' f P) := by
  unfold rdA
  rw [h0]
  split
  · exact lee_rf _
  · split
    · exact h _
    · exact lee_rf _
theorem rdB_mono {σ σ' : St} (h0 : σ' 0 = σ 0) (h1 : σ' 1 = σ 1) (h2 : σ' 2 = σ 2) (h3 : σ' 3 = σ 3) (h4 : σ' 4 = σ 4) (h : ∀ i, lee (σ 6 i) (σ' 6 i)) (f p : Nat) : lee (rdB σ f p) (rdB σ' f p) := by
  have hA := rdA_mono h0 h f
  unfold rdB
  rw [h1, h2, h3, h4]
  split
  · exact lee_and _ (hA _)
  split
  · exact lee_or (lee_or (hA _) (lee_rf _)) (lee_rf _)
  split
  · exact lee_or (lee_or (hA _) (lee_rf _)) (lee_rf _)
  split
  · exact hA _
  split
  · exact lee_or (lee_or (hA _) (lee_rf _)) (hA _)
  split
  · exact lee_or (lee_and _ (hA _)) (lee_rf _)
  split
  · exact lee_or (hA _) (lee_rf _)
  · exact lee_rf _
/-- the place of instruction i in reads -/
def ixx (i : Nat) : Nat := i / 8 * 9 + i % 8
/-- four bits alone -/
def b4 (x : Int32) : Prop := ∀ b, b < 32 → bt x b = true → b < 4
def bn (b : Bool) : Nat := if b = true then 1 else 0
def pcn (x : Int32) : Nat := bn (bt x 0) + bn (bt x 1) + bn (bt x 2) + bn (bt x 3)
def mu (σ : St) : Nat → Nat
  | 0 => 0
  | n + 1 => mu σ n + pcn (σ 6 (ixx n))
theorem bn_le (b : Bool) : bn b ≤ 1 := by unfold bn; split <;> omega
theorem pcn_le (x : Int32) : pcn x ≤ 4 := by
  have := bn_le (bt x 0); have := bn_le (bt x 1); have := bn_le (bt x 2); have := bn_le (bt x 3)
  unfold pcn
  omega
theorem mu_le (σ : St) : ∀ n, mu σ n ≤ 4 * n
  | 0 => Nat.le_refl 0
  | n + 1 => by
    have := mu_le σ n
    have := pcn_le (σ 6 (ixx n))
    show mu σ n + _ ≤ _
    omega
theorem bn_mono {x y : Int32} (h : lee x y) {b : Nat} (hb : b < 32) : bn (bt x b) ≤ bn (bt y b) := by
  unfold bn
  by_cases q : bt x b = true
  · rw [if_pos q, if_pos (h b hb q)]
    omega
  · rw [if_neg q]
    omega
theorem bn_lt {x y : Int32} {b : Nat} (hx : ¬ bt x b = true) (hy : bt y b = true) : bn (bt x b) < bn (bt y b) := by
  unfold bn
  rw [if_neg hx, if_pos hy]
  omega
theorem pcn_lt {x y : Int32} (h : lee x y) (hne : ¬ y = x) (h4 : b4 y) : pcn x < pcn y := by
  have m0 := bn_mono h (b := 0) (by omega)
  have m1 := bn_mono h (b := 1) (by omega)
  have m2 := bn_mono h (b := 2) (by omega)
  have m3 := bn_mono h (b := 3) (by omega)
  unfold pcn
  by_cases q : ∃ b, b < 32 ∧ ¬ bt x b = true ∧ bt y b = true
  · obtain ⟨b, hb, hx, hy⟩ := q
    have hb4 := h4 b hb hy
    have := bn_lt hx hy
    rcases (show b = 0 ∨ b = 1 ∨ b = 2 ∨ b = 3 by omega) with rfl | rfl | rfl | rfl <;> omega
  · refine absurd (b_ext fun b hb => ?_) hne
    by_cases hx : bt x b = true
    · rw [hx, h b hb hx]
    · by_cases hy : bt y b = true
      · exact absurd ⟨b, hb, hx, hy⟩ q
      · rw [Bool.not_eq_true] at hx hy
        rw [hx, hy]
theorem mu_su {σ : St} {i : Nat} {v : Int32} (hi : i < 24) : ∀ n, n ≤ 24 → (n ≤ i → mu (su σ 6 (ixx i) v) n = mu σ n) ∧ (i < n → mu (su σ 6 (ixx i) v) n + pcn (σ 6 (ixx i)) = mu σ n + pcn v)
  | 0, _ => ⟨fun _ => rfl, fun h => absurd h (by omega)⟩
  | n + 1, hn => by
    obtain ⟨h1, h2⟩ := mu_su (σ := σ) (v := v) hi n (by omega)
    refine ⟨fun h => ?_, fun h => ?_⟩
    · show mu (su σ 6 (ixx i) v) n + pcn (su σ 6 (ixx i) v 6 (ixx n)) = mu σ n + pcn (σ 6 (ixx n))
      rw [h1 (by omega), su_oth (Or.inr (by unfold ixx; omega))]
    · show mu (su σ 6 (ixx i) v) n + pcn (su σ 6 (ixx i) v 6 (ixx n)) + pcn (σ 6 (ixx i)) = mu σ n + pcn (σ 6 (ixx n)) + pcn v
      by_cases hin : i = n
      · subst hin
        rw [h1 (by omega), su_eq]
        omega
      · rw [su_oth (Or.inr (by unfold ixx; omega))]
        have := h2 (by omega)
        omega
def JJ (σ : St) : Prop := szw σ ∧ rgw σ ∧ (∀ i, i < 24 → b4 (σ 6 (ixx i))) ∧ ∀ i, i < 24 → nI (i % 8) < σ 0 (i / 8) → lee (σ 6 (ixx i)) (rdB σ (i / 8) (i % 8))
theorem b4_or {x y : Int32} (hx : b4 x) (hy : b4 y) : b4 (x ||| y) := by
  intro b hb h
  rw [b_or, Bool.or_eq_true] at h
  rcases h with q | q
  · exact hx b hb q
  · exact hy b hb q
theorem b4_and {x : Int32} (y : Int32) (hx : b4 x) : b4 (x &&& y) := by
  intro b hb h
  rw [b_and, Bool.and_eq_true] at h
  exact hx b hb h.1
theorem b4_bm {a : Nat} (ha : a < 4) : b4 (bm (nI a)) := by
  intro b hb h
  rw [b_bm a ha b hb, decide_eq_true_iff] at h
  omega
theorem b4_rdA {σ : St} (h : JJ σ) {f : Nat} (hf : f < 3) (P : Int32) : b4 (rdA σ f P) := by
  have h0 : b4 0 := fun b _ q => by rw [b_0] at q; cases q
  unfold rdA
  by_cases c1 : P < 0
  · rw [if_pos c1]; exact h0
  · rw [if_neg c1]
    by_cases c2 : P < σ 0 f
    · rw [if_pos c2]
      obtain ⟨j, hj, e⟩ := sz_ix h.1 c1 c2
      rw [e, cn_nI (by omega)]
      have := h.2.2.1 (f * 8 + j) (by omega)
      rwa [show ixx (f * 8 + j) = f * 9 + j by unfold ixx; omega] at this
    · rw [if_neg c2]; exact h0
theorem b4_rdB {σ : St} (h : JJ σ) {f : Nat} (hf : f < 3) (p : Nat) : b4 (rdB σ f p) := by
  have hA := b4_rdA h hf
  obtain ⟨⟨a, ha, ea⟩, ⟨b, hb, eb⟩⟩ := h.2.1 (f * 8 + p)
  unfold rdB
  rw [ea, eb]
  split
  · exact b4_and _ (hA _)
  split
  · exact b4_or (b4_or (hA _) (b4_bm ha)) (b4_bm hb)
  split
  · exact b4_or (b4_or (hA _) (b4_bm ha)) (b4_bm hb)
  split
  · exact hA _
  split
  · exact b4_or (b4_or (hA _) (b4_bm ha)) (hA _)
  split
  · exact b4_or (b4_and _ (hA _)) (b4_bm ha)
  split
  · exact b4_or (hA _) (b4_bm ha)
  · exact b4_bm ha
/-- one place: it stays, or the measure grows -/
theorem anS_J {σ : St} (h : JJ σ) {i : Nat} (hi : i < 24) : JJ (anS σ (i / 8) (i % 8)) ∧ (∀ k, k ≠ 6 → anS σ (i / 8) (i % 8) k = σ k) ∧ ((anG σ (i / 8) (i % 8) = 0 ∧ anS σ (i / 8) (i % 8) = σ) ∨ (¬ anG σ (i / 8) (i % 8) = 0 ∧ mu σ 24 < mu (anS σ (i / 8) (i % 8)) 24)) := by
  unfold anS anG
  by_cases c1 : nI (i % 8) < σ 0 (i / 8)
  · rw [if_pos c1, if_pos c1]
    by_cases c2 : rdB σ (i / 8) (i % 8) = σ 6 (i / 8 * 9 + i % 8)
    · rw [if_pos c2, if_pos c2]
      exact ⟨h, fun _ _ => rfl, Or.inl ⟨rfl, rfl⟩⟩
    · rw [if_neg c2, if_neg c2]
      have hv4 := b4_rdB h (show i / 8 < 3 by omega) (i % 8)
      have hlee := h.2.2.2 i hi c1
      show JJ (su σ 6 (ixx i) (rdB σ (i / 8) (i % 8))) ∧ (∀ k, k ≠ 6 → su σ 6 (ixx i) (rdB σ (i / 8) (i % 8)) k = σ k) ∧ _
      have hup : ∀ j, lee (σ 6 j) (su σ 6 (ixx i) (rdB σ (i / 8) (i % 8)) 6 j) := by
        intro j
        by_cases hj : j = ixx i
        · subst hj
          rw [su_eq]
          exact hlee
        · rw [su_oth (Or.inr hj)]
          exact lee_rf _
      have hm := rdB_mono (σ := σ) (σ' := su σ 6 (ixx i) (rdB σ (i / 8) (i % 8))) (su_ne (by decide)) (su_ne (by decide)) (su_ne (by decide)) (su_ne (by decide)) (su_ne (by decide)) hup
      refine ⟨⟨szw_su h.1 (by decide), ?_, fun j hj => ?_, fun j hj hl => ?_⟩, fun k hk => su_ne hk, Or.inr ⟨by decide, ?_⟩⟩
      · intro j
        rw [su_ne (by decide), su_ne (by decide)]
        exact h.2.1 j
      · by_cases hij : ixx j = ixx i
        · rw [hij, su_eq]; exact hv4
        · rw [su_oth (Or.inr hij)]; exact h.2.2.1 j hj
      · rw [su_ne (by decide)] at hl
        by_cases hij : j = i
        · subst hij
          rw [su_eq]
          exact hm _ _
        · rw [su_oth (Or.inr (by unfold ixx; omega))]
          exact fun b hb q => hm _ _ b hb (h.2.2.2 j hj hl b hb q)
      · have e := (mu_su (σ := σ) (v := rdB σ (i / 8) (i % 8)) hi 24 (Nat.le_refl 24)).2 hi
        have := pcn_lt hlee c2 hv4
        show mu σ 24 < mu (su σ 6 (ixx i) (rdB σ (i / 8) (i % 8))) 24
        omega
  · rw [if_neg c1, if_neg c1]
    exact ⟨h, fun _ _ => rfl, Or.inl ⟨rfl, rfl⟩⟩
theorem anR_J : ∀ i {σ : St} (m : Int32), i ≤ 24 → JJ σ → JJ (anR i σ m).1 ∧ (∀ k, k ≠ 6 → (anR i σ m).1 k = σ k) ∧ mu σ 24 ≤ mu (anR i σ m).1 24 ∧ (¬ (anR i σ m).2 = 0 → ¬ m = 0 ∨ mu σ 24 < mu (anR i σ m).1 24) ∧ ((anR i σ m).2 = 0 → m = 0 ∧ (anR i σ m).1 = σ ∧ ∀ j, j < i → anG σ (j / 8) (j % 8) = 0)
  | 0, σ, m, _, h => ⟨h, fun _ _ => rfl, Nat.le_refl _, fun q => Or.inl q, fun q => ⟨q, rfl, fun j hj => absurd hj (by omega)⟩⟩
  | i + 1, σ, m, hi, h => by
    obtain ⟨s1, s2, s3⟩ := anS_J h (show i < 24 by omega)
    obtain ⟨r1, r2, r3, r4, r5⟩ := anR_J i (σ := anS σ (i / 8) (i % 8)) (if m = 0 then anG σ (i / 8) (i % 8) else 1) (by omega) s1
    have hmu : mu σ 24 ≤ mu (anS σ (i / 8) (i % 8)) 24 := by
      rcases s3 with ⟨-, e⟩ | ⟨-, e⟩
      · rw [e]; exact Nat.le_refl _
      · omega
    show JJ (anR i (anS σ (i / 8) (i % 8)) (if m = 0 then anG σ (i / 8) (i % 8) else 1)).1 ∧ (∀ k, k ≠ 6 → (anR i (anS σ (i / 8) (i % 8)) (if m = 0 then anG σ (i / 8) (i % 8) else 1)).1 k = σ k) ∧ mu σ 24 ≤ mu (anR i (anS σ (i / 8) (i % 8)) (if m = 0 then anG σ (i / 8) (i % 8) else 1)).1 24 ∧ (¬ (anR i (anS σ (i / 8) (i % 8)) (if m = 0 then anG σ (i / 8) (i % 8) else 1)).2 = 0 → ¬ m = 0 ∨ mu σ 24 < mu (anR i (anS σ (i / 8) (i % 8)) (if m = 0 then anG σ (i / 8) (i % 8) else 1)).1 24) ∧ ((anR i (anS σ (i / 8) (i % 8)) (if m = 0 then anG σ (i / 8) (i % 8) else 1)).2 = 0 → m = 0 ∧ (anR i (anS σ (i / 8) (i % 8)) (if m = 0 then anG σ (i / 8) (i % 8) else 1)).1 = σ ∧ ∀ j, j < i + 1 → anG σ (j / 8) (j % 8) = 0)
    refine ⟨r1, fun k hk => (r2 k hk).trans (s2 k hk), Nat.le_trans hmu r3, fun q => ?_, fun q => ?_⟩
    · rcases r4 q with w | w
      · by_cases hm : m = 0
        · rw [if_pos hm] at w
          rcases s3 with ⟨e, -⟩ | ⟨-, e⟩
          · exact absurd e w
          · exact Or.inr (Nat.lt_of_lt_of_le e r3)
        · exact Or.inl hm
      · exact Or.inr (Nat.lt_of_le_of_lt hmu w)
    · obtain ⟨w1, w2, w3⟩ := r5 q
      by_cases hm : m = 0
      · rw [if_pos hm] at w1
        rcases s3 with ⟨-, e⟩ | ⟨e, -⟩
        · refine ⟨hm, w2.trans e, fun j hj => ?_⟩
          by_cases hji : j = i
          · rw [hji]; exact w1
          · have := w3 j (by omega)
            rwa [e] at this
        · exact absurd w1 e
      · rw [if_neg hm] at w1
        exact absurd w1 (by decide)
theorem anL_fix : ∀ n {σ : St}, JJ σ → 96 < mu σ 24 + n → fix (anL n σ) ∧ ∀ k, k ≠ 6 → anL n σ k = σ k
  | 0, σ, _, h => by
    have := mu_le σ 24
    omega
  | n + 1, σ, hJ, h => by
    obtain ⟨r1, r2, r3, r4, r5⟩ := anR_J 24 0 (Nat.le_refl 24) hJ
    unfold anL
    by_cases c : (anR 24 σ 0).2 = 0
    · rw [if_pos c]
      obtain ⟨-, e, hg⟩ := r5 c
      refine ⟨?_, r2⟩
      rw [e]
      intro f p hf hp hl
      have g := hg (f * 8 + p) (by omega)
      rw [show (f * 8 + p) / 8 = f by omega, show (f * 8 + p) % 8 = p by omega, anG, if_pos hl] at g
      by_cases q : rdB σ f p = σ 6 (f * 9 + p)
      · exact q.symm
      · rw [if_neg q] at g
        exact absurd g (by decide)
    · rw [if_neg c]
      have hlt := (r4 c).resolve_left (fun q => q rfl)
      obtain ⟨a, b⟩ := anL_fix n r1 (by omega)
      exact ⟨a, fun k hk => (b k hk).trans (r2 k hk)⟩
theorem anZ_ne (σ : St) {k : Nat} (hk : k ≠ 6) : ∀ i, anZ σ i k = σ k
  | 0 => rfl
  | i + 1 => by
    show su (anZ σ i) 6 i 0 k = _
    rw [su_ne hk]
    exact anZ_ne σ hk i
theorem anZ_in (σ : St) : ∀ n {i : Nat}, i < n → anZ σ n 6 i = 0
  | 0, _, h => absurd h (by omega)
  | n + 1, i, h => by
    show su (anZ σ n) 6 n 0 6 i = 0
    by_cases hi : i = n
    · subst hi; exact su_eq
    · rw [su_oth (Or.inr hi)]
      exact anZ_in σ n (by omega)
/-- analyse: a fixpoint, and nothing else has changed -/
theorem anz_fix {σ : St} (hsz : szw σ) (hrg : rgw σ) (h5 : σ 5 0 = 0) : fix (anz σ) ∧ anz σ 5 0 = 1 ∧ ∀ k, k ≠ 5 → k ≠ 6 → anz σ k = σ k := by
  have e : anz σ = anL 97 (anZ (su σ 5 0 1) 27) := by rw [anz, if_pos h5]
  have hne : ∀ k, k ≠ 5 → k ≠ 6 → anZ (su σ 5 0 1) 27 k = σ k := fun k h1 h2 => by rw [anZ_ne _ h2, su_ne h1]
  have h00 : ∀ b, bt 0 b = true → False := fun b q => by rw [b_0] at q; cases q
  have hJ : JJ (anZ (su σ 5 0 1) 27) := by
    refine ⟨?_, ?_, fun i hi b hb q => ?_, fun i hi _ b hb q => ?_⟩
    · intro f
      rw [hne 0 (by decide) (by decide)]
      exact hsz f
    · intro j
      rw [hne 2 (by decide) (by decide), hne 3 (by decide) (by decide)]
      exact hrg j
    · rw [anZ_in _ 27 (by unfold ixx; omega)] at q
      exact (h00 b q).elim
    · rw [anZ_in _ 27 (by unfold ixx; omega)] at q
      exact (h00 b q).elim
  obtain ⟨a, b⟩ := anL_fix 97 hJ (by omega)
  rw [e]
  refine ⟨a, ?_, fun k h1 h2 => (b k h2).trans (hne k h1 h2)⟩
  rw [b 5 (by decide), anZ_ne _ (by decide), su_eq]
end
section
set_option maxRecDepth 100000
/-! ===== the law's calls, one by one: same answers, and Inv again ===== -/
theorem anz_inv {σ τ : St} (h : Inv σ τ) : Inv (anz σ) τ ∧ anz σ 5 0 = 1 ∧ fix (anz σ) ∧ ∀ k, k ≠ 5 → k ≠ 6 → anz σ k = σ k := by
  obtain ⟨hc, h5, hI⟩ := h
  rcases h5 with h5 | ⟨h5, hx⟩
  · obtain ⟨a, b, ne⟩ := anz_fix hc.2.2.2.2.2.1 hc.rg h5
    refine ⟨⟨?_, Or.inr ⟨b, a⟩, fun c hcc => ?_⟩, b, a, ne⟩
    · obtain ⟨e0, e1, e2, e3, e4, e5, e6⟩ := hc
      refine ⟨by rw [ne 0 (by decide) (by decide)]; exact e0, by rw [ne 1 (by decide) (by decide)]; exact e1, ?_, ?_, by rw [ne 4 (by decide) (by decide)]; exact e4, ?_, ?_⟩
      · rw [ne 2 (by decide) (by decide)]; exact e2
      · rw [ne 3 (by decide) (by decide)]; exact e3
      · intro f; rw [ne 0 (by decide) (by decide)]; exact e5 f
      · rw [ne 1 (by decide) (by decide)]; exact e6
    · obtain ⟨e7, e8, e9, e10, hs⟩ := hI c hcc
      refine ⟨by rw [ne 7 (by decide) (by decide)]; exact e7, by rw [ne 8 (by decide) (by decide)]; exact e8, by rw [ne 9 (by decide) (by decide)]; exact e9, by rw [ne 10 (by decide) (by decide)]; exact e10, ?_⟩
      rw [ne 7 (by decide) (by decide)]
      rcases hs with h | h | h | ⟨h, hr⟩ | ⟨h, h51, -⟩
      · exact Or.inl h
      · exact Or.inr (Or.inl h)
      · exact Or.inr (Or.inr (Or.inl h))
      · refine Or.inr (Or.inr (Or.inr (Or.inl ⟨h, ?_⟩)))
        unfold Rdy at hr ⊢
        rw [ne 10 (by decide) (by decide), ne 11 (by decide) (by decide), ne 12 (by decide) (by decide), ne 13 (by decide) (by decide)]
        exact hr
      · rw [h5] at h51
        exact absurd h51 (by decide)
  · have e : anz σ = σ := by rw [anz, if_neg (by rw [h5]; decide)]
    rw [e]
    exact ⟨⟨hc, Or.inr ⟨h5, hx⟩, hI⟩, h5, hx, fun _ _ _ => rfl⟩
theorem go_sim {σ τ : St} {co : Nat} (v : Int32) (h : Inv σ τ) (hco : co < 4) (hst : σ 7 co = 1 ∨ σ 7 co = 2) : Inv (go σ co v) (re τ co v) := by
  obtain ⟨h1, h5, hx, ne⟩ := anz_inv h
  have := go_sim1 v h1 h5 hx hco (by rw [ne 7 (by decide) (by decide)]; exact hst)
  rw [ne 10 (by decide) (by decide)] at this
  exact this
theorem rs_sim {σ τ : St} (a v : Int32) (h : Inv σ τ) : (rs0 σ a v).1 = (rs1 τ a v).1 ∧ Inv (rs0 σ a v).2 (rs1 τ a v).2 := by
  unfold rs0 rs1
  by_cases hb : bd a = 0
  · rw [if_pos hb, if_pos hb]
    obtain ⟨k, hk, e⟩ := bd_ok hb
    have ek : cn a = k := by rw [e]; exact cn_nI (by omega)
    rw [ek, ← (h.2.2 k hk).1]
    by_cases hs : σ 7 k = 1 ∨ σ 7 k = 2
    · rw [if_pos hs, if_pos hs]
      have hg := go_sim v h hk hs
      exact ⟨(hg.2.2 k hk).1, hg⟩
    · rw [if_neg hs, if_neg hs]
      exact ⟨rfl, h⟩
  · rw [if_neg hb, if_neg hb]
    exact ⟨rfl, h⟩
theorem mo_lt {n : Int32} {k : Nat} (hk : k < 20) : nI k < n ↔ k < cn (mo n) := by
  have hcn : ∀ x : Int32, cn x = x.toInt.toNat := fun x => rfl
  unfold mo
  by_cases h : n ≤ 20
  · rw [if_pos h, hcn, Int32.lt_iff_toInt_lt, nI_toInt (by omega)]
    omega
  · rw [if_neg h]
    have h20 : (20 : Int32).toInt = 20 := by decide
    have h2 : (20 : Int32) < n := Int32.not_le.mp h
    rw [Int32.lt_iff_toInt_lt, h20] at h2
    rw [hcn, h20, Int32.lt_iff_toInt_lt, nI_toInt (by omega)]
    omega
theorem mo_le (n : Int32) : cn (mo n) ≤ 20 := by
  have hcn : ∀ x : Int32, cn x = x.toInt.toNat := fun x => rfl
  have h20 : (20 : Int32).toInt = 20 := by decide
  unfold mo
  by_cases h : n ≤ 20
  · rw [if_pos h, hcn]
    rw [Int32.le_iff_toInt_le, h20] at h
    omega
  · rw [if_neg h]
    decide
theorem eL1_id {co : Nat} {n : Int32} {τ : St} (h : τ 4 co ≠ 2) : ∀ m k s, eL1 co n m k τ s = (s, τ)
  | 0, _, _ => rfl
  | m + 1, k, s => by
    unfold eL1
    split
    · exact eL1_id h m (k + 1) s
    · exact eL1_id h m (k + 1) s
theorem eL1_id' {co : Nat} {n : Int32} {τ : St} : ∀ m k s, m + k = 20 → cn (mo n) ≤ k → eL1 co n m k τ s = (s, τ)
  | 0, _, _, _, _ => rfl
  | m + 1, k, s, h, hk => by
    unfold eL1
    rw [if_neg (by rw [mo_lt (by omega)]; omega)]
    exact eL1_id' m (k + 1) s (by omega) (by omega)
theorem ecL_sim {co : Nat} {n : Int32} (hco : co < 4) : ∀ m k {σ τ : St} (s : Int32), m + k = 20 → Inv σ τ → (ecL co (cn (mo n) - k) σ s).1 = (eL1 co n m k τ s).1 ∧ Inv (ecL co (cn (mo n) - k) σ s).2 (eL1 co n m k τ s).2
  | 0, k, σ, τ, s, hk, h => by
    have := mo_le n
    rw [show cn (mo n) - k = 0 by omega]
    exact ⟨rfl, h⟩
  | m + 1, k, σ, τ, s, hk, h => by
    by_cases hl : k < cn (mo n)
    · obtain ⟨t, ht⟩ : ∃ t, cn (mo n) - k = t + 1 := ⟨cn (mo n) - k - 1, by omega⟩
      rw [ht]
      unfold ecL eL1
      rw [if_pos ((mo_lt (by omega)).mpr hl), ← (h.2.2 co hco).1]
      by_cases hs : σ 7 co = 2
      · rw [if_pos hs, if_pos hs, ← (h.2.2 co hco).2.1]
        have hg := go_sim (σ 8 co) h hco (Or.inr hs)
        rw [← (hg.2.2 co hco).2.1, show t = cn (mo n) - (k + 1) by omega]
        exact ecL_sim hco m (k + 1) _ (by omega) hg
      · rw [if_neg hs, if_neg hs, eL1_id (by rw [← (h.2.2 co hco).1]; exact hs)]
        exact ⟨rfl, h⟩
    · rw [show cn (mo n) - k = 0 by omega, eL1_id' (m + 1) k s hk (by omega)]
      exact ⟨rfl, h⟩
theorem ec_sim {σ τ : St} (a n : Int32) (h : Inv σ τ) : (ec0 σ a n).1 = (ec1 τ a n).1 ∧ Inv (ec0 σ a n).2 (ec1 τ a n).2 := by
  unfold ec0 ec1
  by_cases hb : bd a = 0
  · rw [if_pos hb, if_pos hb]
    obtain ⟨k, hk, e⟩ := bd_ok hb
    have ek : cn a = k := by rw [e]; exact cn_nI (by omega)
    rw [ek, ← (h.2.2 k hk).1]
    by_cases hs : σ 7 k = 2
    · rw [if_pos hs, if_pos hs]
      exact ecL_sim hk 20 0 0 rfl h
    · rw [if_neg hs, if_neg hs]
      exact ⟨rfl, h⟩
  · rw [if_neg hb, if_neg hb]
    exact ⟨rfl, h⟩
/-- a new Inv where only co has changed -/
theorem Inv.at {σ τ σ' τ' : St} {co : Nat} (h : Inv σ τ) (h0 : ot0 σ σ' co) (h1 : ot1 τ τ' co) (hI : Idle σ' τ' co) : Inv σ' τ' := by
  obtain ⟨hc, h5, hA⟩ := h
  refine ⟨hc.mv h0 h1, ?_, fun c hcc => ?_⟩
  · rw [h0.k (show 5 ≤ 6 by decide)]
    rcases h5 with q | ⟨q, hx⟩
    · exact Or.inl q
    · exact Or.inr ⟨q, hx.sm h0.sm⟩
  · by_cases e : c = co
    · rw [e]; exact hI
    · exact (hA c hcc).mv e h0 h1
theorem st_sim {σ τ : St} (a f x : Int32) (h : Inv σ τ) : (st0 σ a f x).1 = (st1 τ a f x).1 ∧ Inv (st0 σ a f x).2 (st1 τ a f x).2 := by
  unfold st0 st1
  by_cases hb : bd a = 0
  · rw [if_pos hb, if_pos hb]
    obtain ⟨k, hk, e⟩ := bd_ok hb
    have ek : cn a = k := by rw [e]; exact cn_nI (by omega)
    rw [ek]
    by_cases hf : f < 0
    · rw [if_pos hf, if_pos hf]
      exact ⟨rfl, h⟩
    · rw [if_neg hf, if_neg hf]
      by_cases h3 : f < 3
      · obtain ⟨g, hg, eg⟩ := ix_of (n := 3) hf h3 (by decide)
        rw [if_pos h3, if_pos (by rw [eg]; exact nI_le (b := 2) (by omega) (by decide))]
        refine ⟨rfl, ?_⟩
        have o0 : ot0 σ (ss0 σ k f x) k := by
          unfold ss0
          refine ot0_su (ot0_su (ot0_su (ot0_su (ot0_su (ot0_su (ot0_su (ot0_rf σ k) ?_) ?_) ?_) ?_) ?_) ?_) ?_ <;> (unfold lo0; omega)
        have o1 : ot1 τ (ss1 τ k f x) k := by
          unfold ss1
          exact ot1_su (ot1_su (ot1_su (ot1_pu _ _ (by decide) (ot1_su (ot1_rf τ k) (by unfold lo1; omega))) (by unfold lo1; omega)) (by unfold lo1; omega)) (by unfold lo1; omega)
        show Inv (ss0 σ k f x) (ss1 τ k f x)
        refine h.at o0 o1 ?_
        unfold ss0 ss1 pu
        refine ⟨?_, ?_, ?_, ?_, Or.inr (Or.inr (Or.inr (Or.inl ⟨?_, ?_, g, hg, ?_, ?_, ?_, ?_, ?_, ?_, ?_, ?_⟩)))⟩
        all_goals (simp only [su_app]; simp [show k * 4 * 4 = k * 16 by omega])
        · rfl
        · exact eg
        · exact eg
      · rw [if_neg h3, if_neg (fun q => h3 (Int32.lt_of_le_of_lt q (by decide)))]
        exact ⟨rfl, h⟩
  · rw [if_neg hb, if_neg hb]
    exact ⟨rfl, h⟩
theorem dr_sim {σ τ : St} (a : Int32) (h : Inv σ τ) : (dr0 σ a).1 = (dr1 τ a).1 ∧ Inv (dr0 σ a).2 (dr1 τ a).2 := by
  unfold dr0 dr1
  by_cases hb : bd a = 0
  · rw [if_pos hb, if_pos hb]
    obtain ⟨k, hk, e⟩ := bd_ok hb
    have ek : cn a = k := by rw [e]; exact cn_nI (by omega)
    rw [ek]
    refine ⟨(h.2.2 k hk).1, ?_⟩
    show Inv (su (fin0 σ k 0 0) 9 k 0) (su (en τ k 0 0) 6 k 0)
    refine h.at (ot0_su (ot0_fin _ _ (ot0_rf σ k)) (by unfold lo0; omega)) (ot1_su (ot1_en _ _ (ot1_rf τ k)) (by unfold lo1; omega)) ?_
    obtain ⟨x1, x2, x3⟩ := fin0_at σ k 0 0
    obtain ⟨y1, y2, y3⟩ := en_at τ k 0 0
    refine ⟨?_, ?_, ?_, ?_, Or.inl ?_⟩
    · rw [su_oth (by omega), su_oth (by omega), x1, y1]
    · rw [su_oth (by omega), su_oth (by omega), x2, y2]
    · rw [su_eq, su_eq]
    · rw [su_oth (by omega), su_oth (by omega), x3, y3]
    · rw [su_oth (by omega), x1]
  · rw [if_neg hb, if_neg hb]
    exact ⟨rfl, h⟩
theorem qu_sim {σ τ : St} {k k' : Nat} (a : Int32) (h : ∀ c, c < 4 → σ k c = τ k' c) : qu k σ a = qu k' τ a := by
  unfold qu
  by_cases hb : bd a = 0
  · rw [if_pos hb, if_pos hb]
    obtain ⟨c, hc, e⟩ := bd_ok hb
    rw [show cn a = c by rw [e]; exact cn_nI (by omega)]
    exact h c hc
  · rw [if_neg hb, if_neg hb]
theorem al_sim {σ τ : St} (a b : Int32) (h : Inv σ τ) : al 7 8 σ a b = al 4 5 τ a b := by
  unfold al
  by_cases ha : bd a = 0
  · rw [if_pos ha, if_pos ha]
    by_cases hb : bd b = 0
    · rw [if_pos hb, if_pos hb]
      obtain ⟨c, hc, e⟩ := bd_ok ha
      obtain ⟨c', hc', e'⟩ := bd_ok hb
      rw [show cn a = c by rw [e]; exact cn_nI (by omega), show cn b = c' by rw [e']; exact cn_nI (by omega), (h.2.2 c hc).1, (h.2.2 c hc).2.1, (h.2.2 c' hc').1, (h.2.2 c' hc').2.1]
    · rw [if_neg hb, if_neg hb]
  · rw [if_neg ha, if_neg ha]
end
section
set_option maxRecDepth 100000
theorem em_sim {σ τ : St} (f op rg c : Int32) (h : Inv σ τ) : (em0 σ f op rg c).1 = (e11 τ f op rg c).1 ∧ Inv (em0 σ f op rg c).2 (e11 τ f op rg c).2 := by
  unfold em0 e11
  by_cases h1 : f < 0
  · rw [if_pos h1, if_pos h1]
    exact ⟨rfl, h⟩
  rw [if_neg h1, if_neg h1]
  by_cases h2 : 3 ≤ f
  · rw [if_pos h2, if_pos (show 2 < f from Int32.lt_of_lt_of_le (by decide) h2)]
    exact ⟨rfl, h⟩
  obtain ⟨k, hk, ek⟩ := f3_of h1 h2
  rw [if_neg h2, if_neg (show ¬ 2 < f by rw [ek]; exact nI_nlt (a := 2) (b := k) (by omega) (by decide))]
  by_cases h3 : op < 0
  · rw [if_pos h3, if_pos h3]
    exact ⟨rfl, h⟩
  rw [if_neg h3, if_neg h3]
  by_cases h4 : op ≤ 7
  · rw [if_pos h4, if_pos h4, ← (h.2.2 0 (by decide)).1, ← (h.2.2 1 (by decide)).1, ← (h.2.2 2 (by decide)).1, ← (h.2.2 3 (by decide)).1]
    by_cases h5 : σ 7 0 = 0 ∧ σ 7 1 = 0 ∧ σ 7 2 = 0 ∧ σ 7 3 = 0
    · rw [if_pos h5, if_pos h5, show cn f = k by rw [ek]; exact cn_nI (by omega)]
      have hh := h
      obtain ⟨hc, -, hI⟩ := h
      obtain ⟨e0, e1, e2, e3, e4, e5, e6⟩ := hc
      obtain ⟨n, hn, en⟩ := e5 k
      unfold em1 e12
      rw [← e0]
      by_cases h8 : n = 8
      · rw [if_neg (by rw [en, h8]; decide), if_pos (by rw [en, h8]; rfl)]
        exact ⟨rfl, hh⟩
      · have h9 : n < 8 := by omega
        rw [if_pos (by rw [en]; exact nI_lt (b := 8) h9 (by decide)), if_neg (by rw [en]; exact fun q => h8 ((nI_eq (b := 8) (by omega) (by decide)).mp q)), en, cn_nI (by omega), nI_1]
        refine ⟨nI_pred n, ?_⟩
        obtain ⟨o, ho, eo⟩ := nI_of2 (M := 7) (n := 7) (by decide) h3 h4
        have ne : ∀ i, i ≠ 0 → i ≠ 1 → i ≠ 2 → i ≠ 3 → i ≠ 4 → i ≠ 5 → su (su (em2 σ k (k * 8 + n) op rg c) 0 k (nI (n + 1))) 5 0 0 i = σ i := by
          intro i n0 n1 n2 n3 n4 n5
          unfold em2
          rw [su_ne n5, su_ne n0, su_ne n4, su_ne n3, su_ne n2, su_ne n1]
        have nt : ∀ i, i ≠ 0 → i ≠ 1 → i ≠ 2 → i ≠ 3 → su (su (su (su τ 1 (k * 8 + n) op) 2 (k * 8 + n) rg) 3 (k * 8 + n) c) 0 k (nI (n + 1)) i = τ i := by
          intro i n0 n1 n2 n3
          rw [su_ne n0, su_ne n3, su_ne n2, su_ne n1]
        show Inv (su (su (em2 σ k (k * 8 + n) op rg c) 0 k (nI (n + 1))) 5 0 0) (su (su (su (su τ 1 (k * 8 + n) op) 2 (k * 8 + n) rg) 3 (k * 8 + n) c) 0 k (nI (n + 1)))
        refine ⟨⟨?_, ?_, ?_, ?_, ?_, ?_, ?_⟩, Or.inl su_eq, fun q hq => ?_⟩
        · funext i
          unfold em2
          by_cases hi : i = k
          · subst hi
            rw [su_oth (by omega), su_eq, su_eq]
          · rw [su_oth (by omega), su_oth (by omega), su_oth (by omega), su_oth (by omega), su_oth (by omega), su_oth (by omega), e0, su_oth (by omega), su_oth (by omega), su_oth (by omega), su_oth (by omega)]
        · funext i
          unfold em2
          by_cases hi : i = k * 8 + n
          · subst hi
            rw [su_oth (by omega), su_oth (by omega), su_oth (by omega), su_oth (by omega), su_oth (by omega), su_eq, su_oth (by omega), su_oth (by omega), su_oth (by omega), su_eq]
          · rw [su_oth (by omega), su_oth (by omega), su_oth (by omega), su_oth (by omega), su_oth (by omega), su_oth (by omega), e1, su_oth (by omega), su_oth (by omega), su_oth (by omega), su_oth (by omega)]
        · intro i
          unfold em2
          by_cases hi : i = k * 8 + n
          · subst hi
            rw [su_oth (by omega), su_oth (by omega), su_oth (by omega), su_oth (by omega), su_eq, su_oth (by omega), su_oth (by omega), su_eq]
          · rw [su_oth (by omega), su_oth (by omega), su_oth (by omega), su_oth (by omega), su_oth (by omega), su_oth (by omega), e2, su_oth (by omega), su_oth (by omega), su_oth (by omega), su_oth (by omega)]
        · intro i
          unfold em2
          by_cases hi : i = k * 8 + n
          · subst hi
            rw [su_oth (by omega), su_oth (by omega), su_oth (by omega), su_eq, su_oth (by omega), su_oth (by omega), su_eq]
          · rw [su_oth (by omega), su_oth (by omega), su_oth (by omega), su_oth (by omega), su_oth (by omega), su_oth (by omega), e3, su_oth (by omega), su_oth (by omega), su_oth (by omega), su_oth (by omega)]
        · funext i
          unfold em2
          by_cases hi : i = k * 8 + n
          · subst hi
            rw [su_oth (by omega), su_oth (by omega), su_eq, su_oth (by omega), su_eq]
          · rw [su_oth (by omega), su_oth (by omega), su_oth (by omega), su_oth (by omega), su_oth (by omega), su_oth (by omega), e4, su_oth (by omega), su_oth (by omega), su_oth (by omega), su_oth (by omega)]
        · intro i
          unfold em2
          by_cases hi : i = k
          · subst hi
            exact ⟨n + 1, by omega, by rw [su_oth (by omega), su_eq]⟩
          · rw [su_oth (by omega), su_oth (by omega), su_oth (by omega), su_oth (by omega), su_oth (by omega), su_oth (by omega)]
            exact e5 i
        · intro i
          unfold em2
          by_cases hi : i = k * 8 + n
          · subst hi
            exact ⟨o, by omega, by rw [su_oth (by omega), su_oth (by omega), su_oth (by omega), su_oth (by omega), su_oth (by omega), su_eq]; exact eo⟩
          · rw [su_oth (by omega), su_oth (by omega), su_oth (by omega), su_oth (by omega), su_oth (by omega), su_oth (by omega)]
            exact e6 i
        · obtain ⟨x7, x8, x9, x10, -⟩ := hI q hq
          have hz : σ 7 q = 0 := by
            rcases (show q = 0 ∨ q = 1 ∨ q = 2 ∨ q = 3 by omega) with rfl | rfl | rfl | rfl
            · exact h5.1
            · exact h5.2.1
            · exact h5.2.2.1
            · exact h5.2.2.2
          unfold Idle
          rw [ne 7 (by decide) (by decide) (by decide) (by decide) (by decide) (by decide), ne 8 (by decide) (by decide) (by decide) (by decide) (by decide) (by decide), ne 9 (by decide) (by decide) (by decide) (by decide) (by decide) (by decide), ne 10 (by decide) (by decide) (by decide) (by decide) (by decide) (by decide), nt 4 (by decide) (by decide) (by decide) (by decide), nt 5 (by decide) (by decide) (by decide) (by decide), nt 6 (by decide) (by decide) (by decide) (by decide), nt 7 (by decide) (by decide) (by decide) (by decide)]
          exact ⟨x7, x8, x9, x10, Or.inl hz⟩
    · rw [if_neg h5, if_neg h5]
      exact ⟨rfl, h⟩
  · rw [if_neg h4, if_neg h4]
    exact ⟨rfl, h⟩
/-! copy -/
theorem cpA_at (σ : St) (f t : Nat) : ∀ n, n ≤ 4 → (∀ k j, k = 11 ∨ k = 12 → j < n → cpA σ f t n k (t * 4 + j) = σ k (f * 4 + j)) ∧ ∀ k x, (∀ j, j < n → x ≠ t * 4 + j) → cpA σ f t n k x = σ k x
  | 0, _ => ⟨fun k j _ h => absurd h (by omega), fun _ _ _ => rfl⟩
  | n + 1, hn => by
    obtain ⟨a, b⟩ := cpA_at σ f t n (by omega)
    have r : ∀ k, cpA σ f t n k (f * 4 + n) = σ k (f * 4 + n) := fun k => b k _ (fun j hj => by omega)
    refine ⟨fun k j hk hj => ?_, fun k x hx => ?_⟩
    · show su (su (cpA σ f t n) 11 (t * 4 + n) ((cpA σ f t n) 11 (f * 4 + n))) 12 (t * 4 + n) ((cpA σ f t n) 12 (f * 4 + n)) k (t * 4 + j) = _
      by_cases hjn : j = n
      · subst hjn
        rcases hk with rfl | rfl
        · rw [su_oth (by omega), su_eq, r]
        · rw [su_eq, r]
      · rw [su_oth (by omega), su_oth (by omega)]
        exact a k j hk (by omega)
    · show su (su (cpA σ f t n) 11 (t * 4 + n) ((cpA σ f t n) 11 (f * 4 + n))) 12 (t * 4 + n) ((cpA σ f t n) 12 (f * 4 + n)) k x = _
      have := hx n (by omega)
      rw [su_oth (by omega), su_oth (by omega)]
      exact b k x (fun j hj => hx j (by omega))
theorem cpB_at (σ : St) (f t : Nat) : ∀ n, n ≤ 16 → (∀ j, j < n → cpB σ f t n 13 (t * 16 + j) = σ 13 (f * 16 + j)) ∧ ∀ k x, (∀ j, j < n → x ≠ t * 16 + j) → cpB σ f t n k x = σ k x
  | 0, _ => ⟨fun j h => absurd h (by omega), fun _ _ _ => rfl⟩
  | n + 1, hn => by
    obtain ⟨a, b⟩ := cpB_at σ f t n (by omega)
    have r : cpB σ f t n 13 (f * 16 + n) = σ 13 (f * 16 + n) := b 13 _ (fun j hj => by omega)
    refine ⟨fun j hj => ?_, fun k x hx => ?_⟩
    · show su (cpB σ f t n) 13 (t * 16 + n) ((cpB σ f t n) 13 (f * 16 + n)) 13 (t * 16 + j) = _
      by_cases hjn : j = n
      · subst hjn
        rw [su_eq, r]
      · rw [su_oth (by omega)]
        exact a j (by omega)
    · show su (cpB σ f t n) 13 (t * 16 + n) ((cpB σ f t n) 13 (f * 16 + n)) k x = _
      have := hx n (by omega)
      rw [su_oth (by omega)]
      exact b k x (fun j hj => hx j (by omega))
theorem c1A_at (σ : St) (f t : Nat) : ∀ n, n ≤ 4 → (∀ k j, k = 8 ∨ k = 9 ∨ k = 10 → j < n → c1A σ f t n k (t * 4 + j) = σ k (f * 4 + j)) ∧ ∀ k x, (∀ j, j < n → x ≠ t * 4 + j) → c1A σ f t n k x = σ k x
  | 0, _ => ⟨fun k j _ h => absurd h (by omega), fun _ _ _ => rfl⟩
  | n + 1, hn => by
    obtain ⟨a, b⟩ := c1A_at σ f t n (by omega)
    have r : ∀ k, c1A σ f t n k (f * 4 + n) = σ k (f * 4 + n) := fun k => b k _ (fun j hj => by omega)
    refine ⟨fun k j hk hj => ?_, fun k x hx => ?_⟩
    · show su (su (su (c1A σ f t n) 8 (t * 4 + n) ((c1A σ f t n) 8 (f * 4 + n))) 9 (t * 4 + n) ((c1A σ f t n) 9 (f * 4 + n))) 10 (t * 4 + n) ((c1A σ f t n) 10 (f * 4 + n)) k (t * 4 + j) = _
      by_cases hjn : j = n
      · subst hjn
        rcases hk with rfl | rfl | rfl
        · rw [su_oth (by omega), su_oth (by omega), su_eq, r]
        · rw [su_oth (by omega), su_eq, r]
        · rw [su_eq, r]
      · rw [su_oth (by omega), su_oth (by omega), su_oth (by omega)]
        exact a k j hk (by omega)
    · show su (su (su (c1A σ f t n) 8 (t * 4 + n) ((c1A σ f t n) 8 (f * 4 + n))) 9 (t * 4 + n) ((c1A σ f t n) 9 (f * 4 + n))) 10 (t * 4 + n) ((c1A σ f t n) 10 (f * 4 + n)) k x = _
      have := hx n (by omega)
      rw [su_oth (by omega), su_oth (by omega), su_oth (by omega)]
      exact b k x (fun j hj => hx j (by omega))
theorem c1B_at (σ : St) (f t : Nat) : ∀ n, n ≤ 16 → (∀ j, j < n → c1B σ f t n 11 (t * 16 + j) = σ 11 (f * 16 + j)) ∧ ∀ k x, (∀ j, j < n → x ≠ t * 16 + j) → c1B σ f t n k x = σ k x
  | 0, _ => ⟨fun j h => absurd h (by omega), fun _ _ _ => rfl⟩
  | n + 1, hn => by
    obtain ⟨a, b⟩ := c1B_at σ f t n (by omega)
    have r : c1B σ f t n 11 (f * 16 + n) = σ 11 (f * 16 + n) := b 11 _ (fun j hj => by omega)
    refine ⟨fun j hj => ?_, fun k x hx => ?_⟩
    · show su (c1B σ f t n) 11 (t * 16 + n) ((c1B σ f t n) 11 (f * 16 + n)) 11 (t * 16 + j) = _
      by_cases hjn : j = n
      · subst hjn
        rw [su_eq, r]
      · rw [su_oth (by omega)]
        exact a j (by omega)
    · show su (c1B σ f t n) 11 (t * 16 + n) ((c1B σ f t n) 11 (f * 16 + n)) k x = _
      have := hx n (by omega)
      rw [su_oth (by omega)]
      exact b k x (fun j hj => hx j (by omega))
theorem Frm.cp {σ τ σ' τ' : St} {g g' : Nat} {o : Int32} (h : Frm σ τ g o) (hs : sm σ σ') (h11 : σ' 11 g' = σ 11 g) (h12 : σ' 12 g' = σ 12 g) (h13 : ∀ i, i < 4 → σ' 13 (g' * 4 + i) = σ 13 (g * 4 + i)) (t8 : τ' 8 g' = τ 8 g) (t9 : τ' 9 g' = τ 9 g) (t10 : τ' 10 g' = τ 10 g) (t11 : ∀ i, i < 4 → τ' 11 (g' * 4 + i) = τ 11 (g * 4 + i)) : Frm σ' τ' g' o := by
  obtain ⟨f, p, hf, hp, hl, a1, a2, a3, a4, a5, a6, a7⟩ := h
  have hk := kp_sm hs f p
  refine ⟨f, p, hf, hp, by rw [hs.1]; exact hl, h11.trans a1, t8.trans a2, h12.trans a3, t9.trans a4, by rw [hs.2.1]; exact a5, ?_, ?_⟩
  · rw [t10, a6, hs.2.2.1, hs.2.2.2.1]
  · intro i hi hb
    rw [hk] at hb ⊢
    have := rk_le (kp σ f p) i
    rw [h13 _ (by omega), t11 i hi]
    exact a7 i hi hb
theorem cp_idle {σ τ : St} {f t : Nat} (h : Idle σ τ f) : Idle (cpD σ f t) (c1D τ f t) t ∧ ot0 σ (cpD σ f t) t ∧ ot1 τ (c1D τ f t) t := by
  have o0 : ot0 σ (cpC σ f t) t := ot0_su (ot0_su (ot0_su (ot0_su (ot0_rf σ t) (by unfold lo0; omega)) (by unfold lo0; omega)) (by unfold lo0; omega)) (by unfold lo0; omega)
  have o1 : ot1 τ (c1C τ f t) t := ot1_su (ot1_su (ot1_su (ot1_su (ot1_rf τ t) (by unfold lo1; omega)) (by unfold lo1; omega)) (by unfold lo1; omega)) (by unfold lo1; omega)
  obtain ⟨a1, a2⟩ := cpA_at (cpC σ f t) f t 4 (Nat.le_refl 4)
  obtain ⟨b1, b2⟩ := cpB_at (cpA (cpC σ f t) f t 4) f t 16 (Nat.le_refl 16)
  obtain ⟨c1, c2⟩ := c1A_at (c1C τ f t) f t 4 (Nat.le_refl 4)
  obtain ⟨d1, d2⟩ := c1B_at (c1A (c1C τ f t) f t 4) f t 16 (Nat.le_refl 16)
  have z0 : ot0 σ (cpD σ f t) t := by
    intro k i hn
    rw [← o0 k i hn]
    unfold cpD
    by_cases h13 : k = 13
    · subst h13
      rw [b2 13 i (fun j hj q => hn (by unfold lo0; omega)), cpA_ne _ _ _ (by decide) (by decide)]
    · rw [cpB_ne _ _ _ h13]
      by_cases h11 : k = 11 ∨ k = 12
      · exact a2 k i (fun j hj q => hn (by unfold lo0; omega))
      · rw [cpA_ne _ _ _ (by omega) (by omega)]
  have z1 : ot1 τ (c1D τ f t) t := by
    intro k i hn
    rw [← o1 k i hn]
    unfold c1D
    by_cases h11 : k = 11
    · subst h11
      rw [d2 11 i (fun j hj q => hn (by unfold lo1; omega)), c1A_ne _ _ _ (by decide) (by decide) (by decide)]
    · rw [c1B_ne _ _ _ h11]
      by_cases h8 : k = 8 ∨ k = 9 ∨ k = 10
      · exact c2 k i (fun j hj q => hn (by unfold lo1; omega))
      · rw [c1A_ne _ _ _ (by omega) (by omega) (by omega)]
  refine ⟨?_, z0, z1⟩
  have A : ∀ k, k = 7 ∨ k = 8 ∨ k = 9 ∨ k = 10 → cpD σ f t k t = σ k f := by
    intro k hk
    rw [cpD_ne _ _ _ (by omega) (by omega) (by omega)]
    unfold cpC
    rcases hk with rfl | rfl | rfl | rfl
    · rw [su_oth (by omega), su_oth (by omega), su_oth (by omega), su_eq]
    · rw [su_oth (by omega), su_oth (by omega), su_eq]
    · rw [su_oth (by omega), su_eq]
    · rw [su_eq]
  have A1 : ∀ k, k = 4 ∨ k = 5 ∨ k = 6 ∨ k = 7 → c1D τ f t k t = τ k f := by
    intro k hk
    rw [c1D_ne _ _ _ (by omega) (by omega) (by omega) (by omega)]
    unfold c1C
    rcases hk with rfl | rfl | rfl | rfl
    · rw [su_oth (by omega), su_oth (by omega), su_oth (by omega), su_eq]
    · rw [su_oth (by omega), su_oth (by omega), su_eq]
    · rw [su_oth (by omega), su_eq]
    · rw [su_eq]
  have nC : ∀ k i, k ≠ 7 → k ≠ 8 → k ≠ 9 → k ≠ 10 → cpC σ f t k i = σ k i := by
    intro k i n1 n2 n3 n4
    unfold cpC
    rw [su_oth (by omega), su_oth (by omega), su_oth (by omega), su_oth (by omega)]
  have nC1 : ∀ k i, k ≠ 4 → k ≠ 5 → k ≠ 6 → k ≠ 7 → c1C τ f t k i = τ k i := by
    intro k i n1 n2 n3 n4
    unfold c1C
    rw [su_oth (by omega), su_oth (by omega), su_oth (by omega), su_oth (by omega)]
  have B : ∀ k i, k = 11 ∨ k = 12 → i < 4 → cpD σ f t k (t * 4 + i) = σ k (f * 4 + i) := by
    intro k i hk hi
    unfold cpD
    rw [cpB_ne _ _ _ (by omega), a1 k i hk hi, nC _ _ (by omega) (by omega) (by omega) (by omega)]
  have C : ∀ i, i < 16 → cpD σ f t 13 (t * 16 + i) = σ 13 (f * 16 + i) := by
    intro i hi
    unfold cpD
    rw [b1 i hi, cpA_ne _ _ _ (by decide) (by decide), nC _ _ (by decide) (by decide) (by decide) (by decide)]
  have B1 : ∀ k i, k = 8 ∨ k = 9 ∨ k = 10 → i < 4 → c1D τ f t k (t * 4 + i) = τ k (f * 4 + i) := by
    intro k i hk hi
    unfold c1D
    rw [c1B_ne _ _ _ (by omega), c1 k i hk hi, nC1 _ _ (by omega) (by omega) (by omega) (by omega)]
  have C1 : ∀ i, i < 16 → c1D τ f t 11 (t * 16 + i) = τ 11 (f * 16 + i) := by
    intro i hi
    unfold c1D
    rw [d1 i hi, c1A_ne _ _ _ (by decide) (by decide) (by decide), nC1 _ _ (by decide) (by decide) (by decide) (by decide)]
  have F : ∀ i o, i < 4 → Frm σ τ (f * 4 + i) o → Frm (cpD σ f t) (c1D τ f t) (t * 4 + i) o := by
    intro i o hi hF
    refine hF.cp z0.sm (B 11 i (by omega) hi) (B 12 i (by omega) hi) (fun r hr => ?_) (B1 8 i (by omega) hi) (B1 9 i (by omega) hi) (B1 10 i (by omega) hi) (fun r hr => ?_)
    · have := C (i * 4 + r) (by omega)
      rwa [show t * 16 + (i * 4 + r) = (t * 4 + i) * 4 + r by omega, show f * 16 + (i * 4 + r) = (f * 4 + i) * 4 + r by omega] at this
    · have := C1 (i * 4 + r) (by omega)
      rwa [show t * 16 + (i * 4 + r) = (t * 4 + i) * 4 + r by omega, show f * 16 + (i * 4 + r) = (f * 4 + i) * 4 + r by omega] at this
  obtain ⟨e7, e8, e9, e10, hs⟩ := h
  refine ⟨by rw [A 7 (by omega), A1 4 (by omega), e7], by rw [A 8 (by omega), A1 5 (by omega), e8], by rw [A 9 (by omega), A1 6 (by omega), e9], by rw [A 10 (by omega), A1 7 (by omega), e10], ?_⟩
  rw [A 7 (by omega)]
  rcases hs with h | h | h | ⟨h, hd, f', hf, x1, x2, x3, x4, x5, x6, x7, x8⟩ | ⟨h, h5, d, hd, ed, hF, hT⟩
  · exact Or.inl h
  · exact Or.inr (Or.inl h)
  · exact Or.inr (Or.inr (Or.inl h))
  · refine Or.inr (Or.inr (Or.inr (Or.inl ⟨h, by rw [A 10 (by omega)]; exact hd, f', hf, (B 11 0 (by omega) (by omega)).trans x1, (B1 8 0 (by omega) (by omega)).trans x2, (B 12 0 (by omega) (by omega)).trans x3, (B1 9 0 (by omega) (by omega)).trans x4, ?_, ?_, ?_, ?_⟩)))
    · exact (C 0 (by omega)).trans (x5.trans (C1 0 (by omega)).symm)
    · exact (C1 1 (by omega)).trans x6
    · exact (C1 2 (by omega)).trans x7
    · exact (C1 3 (by omega)).trans x8
  · refine Or.inr (Or.inr (Or.inr (Or.inr ⟨h, by rw [z0.k (by decide)]; exact h5, d, hd, by rw [A 10 (by omega)]; exact ed, fun i hi => F i 6 (by omega) (hF i hi), F d 5 hd hT⟩)))
theorem cp_sim {σ τ : St} (a b : Int32) (h : Inv σ τ) : (cp0 σ a b).1 = (cp1 τ a b).1 ∧ Inv (cp0 σ a b).2 (cp1 τ a b).2 := by
  unfold cp0 cp1
  by_cases ha : bd a = 0
  · rw [if_pos ha, if_pos ha]
    by_cases hb : bd b = 0
    · rw [if_pos hb, if_pos hb]
      obtain ⟨c, hc, e⟩ := bd_ok ha
      obtain ⟨c', hc', e'⟩ := bd_ok hb
      rw [show cn a = c by rw [e]; exact cn_nI (by omega), show cn b = c' by rw [e']; exact cn_nI (by omega)]
      obtain ⟨q1, q2, q3⟩ := cp_idle (t := c') (h.2.2 c hc)
      exact ⟨(h.2.2 c hc).1, h.at q2 q3 q1⟩
    · rw [if_neg hb, if_neg hb]
      exact ⟨rfl, h⟩
  · rw [if_neg ha, if_neg ha]
    exact ⟨rfl, h⟩
theorem inv_0 : Inv (fun _ _ => 0) (fun _ _ => 0) := by
  refine ⟨⟨rfl, rfl, fun _ => show (0 : Int32) = 0 &&& 3 by decide, fun _ => show (0 : Int32) = ((0 : Int32) >>> ((2 : Int32) &&& 31)) &&& 3 by decide, rfl, fun _ => ⟨0, by omega, rfl⟩, fun _ => ⟨0, by omega, rfl⟩⟩, Or.inl rfl, fun c _ => ⟨rfl, rfl, rfl, rfl, Or.inl rfl⟩⟩
end
section
set_option maxRecDepth 100000
/-! what the walks of the loops need of the relations -/
theorem lt_cn {x : Int32} {i : Nat} (hi : i < 2 ^ 31) : nI i < x ↔ i < cn x := by
  have hcn : cn x = x.toInt.toNat := rfl
  rw [hcn, Int32.lt_iff_toInt_lt, nI_toInt hi]
  omega
theorem Idle.top {σ τ : St} {co : Nat} (hI : Idle σ τ co) (hst : σ 7 co = 1 ∨ σ 7 co = 2) : ∃ d f, d < 4 ∧ f < 3 ∧ σ 10 co = nI (d + 1) ∧ σ 11 (co * 4 + d) = nI f ∧ τ 7 co = nI (d + 1) ∧ ((σ 7 co = 1 ∧ σ 12 (co * 4 + d) = -1) ∨ (σ 7 co = 2 ∧ (∃ p, p < 8 ∧ σ 12 (co * 4 + d) = nI p ∧ τ 10 (co * 4 + d) = σ 3 (f * 8 + p)))) := by
  obtain ⟨e7, e8, e9, e10, hs⟩ := hI
  rcases hs with h | h | h | ⟨h, hd, f, hf, a1, a2, a3, a4, a5, a6, a7, a8⟩ | ⟨h, h5, d, hd, ed, hF, f, p, hf, hp, hl, a1, a2, a3, a4, a5, a6, a7⟩
  · exact absurd h (by rcases hst with q | q <;> (rw [q]; decide))
  · exact absurd h (by rcases hst with q | q <;> (rw [q]; decide))
  · exact absurd h (by rcases hst with q | q <;> (rw [q]; decide))
  · exact ⟨0, f, by decide, hf, hd, a1, by rw [← e10]; exact hd, Or.inl ⟨h, a3⟩⟩
  · rw [if_pos rfl] at a6
    exact ⟨d, f, hd, hf, ed, a1, by rw [← e10]; exact ed, Or.inr ⟨h, p, hp, a3, a6⟩⟩
/-- at work: what giveBack and back ask -/
theorem Run.un {σ τ : St} {co d : Nat} (h : Run σ τ co d) : d < 4 ∧ σ 10 co = nI (d + 1) ∧ szw σ ∧ rgw σ ∧ frw σ co d ∧ τ 7 co = nI (d + 1) ∧ gtw τ co d ∧ τ 4 co = 1 ∧ σ 7 co = 5 := ⟨h.1.2.2.1, h.1.2.2.2.2.2.2.1, h.1.1.2.2.2.2.2.1, h.1.1.rg, h.1.fr, h.1.2.2.2.2.2.2.2.1, h.1.gt, h.1.2.2.2.2.1, h.1.2.2.2.1⟩
def Alive (σ τ : St) (co : Nat) : Prop := (∃ d, Run σ τ co d) ∨ Stpd σ τ co
theorem Alive.run {σ τ : St} {co : Nat} (h : Alive σ τ co) (h7 : σ 7 co = 5) : ∃ d, Run σ τ co d := h.resolve_right (fun q => q.n0 h7)
theorem Alive.run1 {σ τ : St} {co : Nat} (h : Alive σ τ co) (h4 : τ 4 co = 1) : ∃ d, Run σ τ co d := h.resolve_right (fun q => q.n1 h4)
theorem Run.back {σ τ : St} {co d : Nat} (h : Run σ τ co d) (v : Int32) : Alive (gb σ co d v) (ba τ co d v) co := by
  rcases gb_sim v h.1 with ⟨-, q⟩ | ⟨d', -, q⟩
  · exact Or.inr q
  · exact Or.inl ⟨d', q⟩
theorem Endd.run {σ τ : St} {co : Nat} (h : Endd σ τ co) (h7 : σ 7 co = 5) : ∃ d, Run σ τ co d ∧ pe σ = 0 := h.resolve_left (fun q => q.n0 h7)
theorem Endd.run1 {σ τ : St} {co : Nat} (h : Endd σ τ co) (h4 : τ 4 co = 1) : ∃ d, Run σ τ co d ∧ pe σ = 0 := h.resolve_left (fun q => q.n1 h4)
theorem Run.next {σ τ : St} {co d : Nat} (h : Run σ τ co d) (hp : pe σ = 0) : Alive (stp σ co) (ct1 τ co) co ∧ Endd (raL co 4 (stp σ co)) (foL co 4 (ct1 τ co)) co ∧ Endd (raL co 4 (stp σ co)) (rn1 (foL co 4 (ct1 τ co)) co) co := by
  rcases step_sim h hp with ⟨d', hr'⟩ | hs
  · obtain ⟨a, b, c, e⟩ := ra_sim 4 hr' hr'.1.2.2.1
    refine ⟨Or.inl ⟨d', hr'⟩, a, ?_⟩
    rcases a with q | ⟨e', q, w⟩
    · exact Or.inl q.mv6
    · exact Or.inr ⟨e', q.mv6, w⟩
  · rw [raL_id hs.n0, foL_id hs.n1]
    exact ⟨Or.inr hs, Or.inl hs, Or.inl hs.mv6⟩
end
section
set_option maxRecDepth 100000

set_option maxHeartbeats 400000 in
theorem k0_returnAtEnd (l : Launch) (σ τ : St) (co : Nat) (hco : co < 4) (hAl : Alive σ τ co) : Cv0 l yX0_returnAtEnd cX0_returnAtEnd 3 4 95 [.int (nI co)] σ (fun u => u = raL co 4 σ) := by
  refine e0_v (by decide) rfl (fun _ => Nat.le_of_ble_eq_true rfl) ?_
  intro pG eN R sT mD aR bL mT cD Q dC dI A oA qA dA hR X hA hret ls hl hw
  have hx := X.1.1
  have hb := X.1.2.1
  have hl : lv_has ls 3 [(0, .ref oA), (1, .int (nI co))] := hl
  refine lv_iconst (v := 0) hx hb dX0_returnAtEnd_0 (by decide) ?_
  refine lv_istore_n (lv' := [(2, .int 0), (0, .ref oA), (1, .int (nI co))]) hx hb dX0_returnAtEnd_1 rfl hl (by decide) rfl (fun ls hl => ?_)
  have loop : ∀ (k r : Nat) (u v : St) (H : Heap) (locs : List Loc) (ls : Array Slot), r + k = 4 → Alive u v co → raL co k u = raL co 4 σ → lv_has ls 3 [(0, .ref oA), (1, .int (nI co)), (2, .int (nI r))] → wd0 dC dI A sT.heap oA qA dA u H locs → W pG l eN R sT mD aR bL mT cD H locs 0 0 Q (F0 mD 2 ls []) := by
    intro k
    induction k with
    | zero =>
      intro r u v H locs ls hk hAl hL hl hw
      refine lv_iload_n hx hb dX0_returnAtEnd_2 rfl (lv_at hl 2 rfl) ?_
      refine lv_iconst (v := nI 4) hx hb dX0_returnAtEnd_3 (by decide) ?_
      refine lv_icmp_ge (tgt := 36) hx hb dX0_returnAtEnd_4 (by decide) (fun c4 => ?_) (fun c4 => ?_)
      · exact hret _ _ _ _ _ dX0_returnAtEnd_36 hL hw
      · exact absurd (nI_le (by omega) (by omega)) c4
    | succ k ih =>
      intro r u v H locs ls hk hAl hL hl hw
      refine lv_iload_n hx hb dX0_returnAtEnd_2 rfl (lv_at hl 2 rfl) ?_
      refine lv_iconst (v := nI 4) hx hb dX0_returnAtEnd_3 (by decide) ?_
      refine lv_icmp_ge (tgt := 36) hx hb dX0_returnAtEnd_4 (by decide) (fun c4 => ?_) (fun c4 => ?_)
      · exact absurd c4 (nI_ge (by omega) (by decide))
      · refine lv_aload_n hx hb dX0_returnAtEnd_7 rfl (lv_at hl 0 rfl) ?_
        refine r0_get X hw 7 (by decide) q39 rfl rfl dX0_returnAtEnd_8 ?_
        refine lv_iload_n hx hb dX0_returnAtEnd_11 rfl (lv_at hl 1 rfl) ?_
        refine r0_ald X hw 6 (k := 7) rfl co rfl (show co < _ by first | assumption | (simp only [fl0]; omega)) dX0_returnAtEnd_12 ?_
        refine lv_iconst (v := 5) hx hb dX0_returnAtEnd_13 (by decide) ?_
        refine lv_icmp_ne (tgt := 36) hx hb dX0_returnAtEnd_14 (by decide) (fun c14 => ?_) (fun c14 => ?_)
        · exact hret _ _ _ _ _ dX0_returnAtEnd_36 (by rw [← hL, raL, if_neg c14]) hw
        · obtain ⟨d, hr⟩ := hAl.run c14
          obtain ⟨hd, ed, hsz, hrg, hfr, -⟩ := hr.un
          obtain ⟨f, hf, ef, -⟩ := hr.2
          refine lv_aload_n hx hb dX0_returnAtEnd_17 rfl (lv_at hl 0 rfl) ?_
          refine r0_calli (rest := []) 0 X hA hw (k0_pastEnd l u f hf ef) (lw_V q136 q138 qs9 q22 q139) (by decide +kernel) rfl (by rw [hR]; exact ⟨Nat.le_of_ble_eq_true rfl, Nat.le_of_ble_eq_true rfl⟩) hl.1 rfl (Nat.le_of_ble_eq_true rfl) dX0_returnAtEnd_18 ⟨Nat.zero_le _, Nat.zero_le _⟩ (fun rq uq H locs hu hw _ _ => ?_)
          obtain ⟨er, hu⟩ := hu
          rw [hu] at hw
          rw [er]
          refine lv_if_eq (tgt := 36) hx hb dX0_returnAtEnd_21 (by decide) (fun c21 => ?_) (fun c21 => ?_)
          · exact hret _ _ _ _ _ dX0_returnAtEnd_36 (by rw [← hL, raL, if_pos c14, if_pos c21]) hw
          · refine lv_aload_n hx hb dX0_returnAtEnd_24 rfl (lv_at hl 0 rfl) ?_
            refine lv_iload_n hx hb dX0_returnAtEnd_25 rfl (lv_at hl 1 rfl) ?_
            refine lv_iconst (v := 0) hx hb dX0_returnAtEnd_26 (by decide) ?_
            refine r0_callv (rest := []) 2 X hA hw (k0_giveBack l u co d 0 hco hd ed hsz hrg hfr) (lw_V q140 q142 qs10 q22 q143) (by decide +kernel) rfl (by rw [hR]; exact ⟨Nat.le_of_ble_eq_true rfl, Nat.le_of_ble_eq_true rfl⟩) hl.1 rfl (Nat.le_of_ble_eq_true rfl) dX0_returnAtEnd_27 ⟨Nat.zero_le _, Nat.zero_le _⟩ (fun uq H locs hu hw _ _ => ?_)
            rw [hu] at hw
            refine lv_iinc (v := nI (r + 1)) (lv' := [(2, .int (nI (r + 1))), (0, .ref oA), (1, .int (nI co))]) hx hb dX0_returnAtEnd_30 hl (k := 2) rfl (nI_1 _) (by decide) rfl (fun ls hl => ?_)
            refine lv_goto (tgt := 2) hx hb dX0_returnAtEnd_33 (by decide) ?_
            exact ih (r + 1) _ _ _ _ _ (by omega) (hr.back 0) (by rw [← hL, raL, if_pos c14, if_neg c21, ed, cn_nI (by omega)]; rfl) (lv_sub hl [1, 2, 0] rfl) hw
  exact loop 4 0 σ τ _ _ _ rfl hAl rfl (lv_sub hl [1, 2, 0] rfl) hw

set_option maxHeartbeats 400000 in
theorem k0_carryOn (l : Launch) (σ τ : St) (co d : Nat) (hco : co < 4) (hRun : Run (su (su σ 7 co 5) 8 co 0) τ co d) : Cv0 l yX0_carryOn cX0_carryOn 3 5 122 [.int (nI co)] σ (fun u => u = cy σ co) := by
  refine e0_v (by decide) rfl (fun _ => Nat.le_of_ble_eq_true rfl) ?_
  intro pG eN R sT mD aR bL mT cD Q dC dI A oA qA dA hR X hA hret ls hl hw
  have hx := X.1.1
  have hb := X.1.2.1
  have hl : lv_has ls 3 [(0, .ref oA), (1, .int (nI co))] := hl
  refine lv_aload_n hx hb dX0_carryOn_0 rfl (lv_at hl 0 rfl) ?_
  refine r0_get X hw 7 (by decide) q39 rfl rfl dX0_carryOn_1 ?_
  refine lv_iload_n hx hb dX0_carryOn_4 rfl (lv_at hl 1 rfl) ?_
  refine lv_iconst (v := 5) hx hb dX0_carryOn_5 (by decide) ?_
  refine r0_ast X hw 6 (k := 7) rfl co rfl (show co < _ by first | assumption | (simp only [fl0]; omega)) dX0_carryOn_6 (fun H locs hw => ?_)
  refine lv_aload_n hx hb dX0_carryOn_7 rfl (lv_at hl 0 rfl) ?_
  refine r0_get X hw 8 (by decide) q40 rfl rfl dX0_carryOn_8 ?_
  refine lv_iload_n hx hb dX0_carryOn_11 rfl (lv_at hl 1 rfl) ?_
  refine lv_iconst (v := 0) hx hb dX0_carryOn_12 (by decide) ?_
  refine r0_ast X hw 7 (k := 8) rfl co rfl (show co < _ by first | assumption | (simp only [fl0]; omega)) dX0_carryOn_13 (fun H locs hw => ?_)
  refine lv_iconst (v := 0) hx hb dX0_carryOn_14 (by decide) ?_
  refine lv_istore_n (lv' := [(2, .int 0), (0, .ref oA), (1, .int (nI co))]) hx hb dX0_carryOn_15 rfl hl (by decide) rfl (fun ls hl => ?_)
  refine lv_aload_n hx hb dX0_carryOn_16 rfl (lv_at hl 1 rfl) ?_
  refine lv_iload_n hx hb dX0_carryOn_17 rfl (lv_at hl 2 rfl) ?_
  refine r0_callv (rest := []) 1 X hA hw (k0_returnAtEnd l (su (su σ 7 co 5) 8 co 0) τ co hco (Or.inl ⟨d, hRun⟩)) (lw_V q132 q134 qs8 q22 q135) (by decide +kernel) rfl (by rw [hR]; exact ⟨Nat.le_of_ble_eq_true rfl, Nat.le_of_ble_eq_true rfl⟩) hl.1 rfl (Nat.le_of_ble_eq_true rfl) dX0_carryOn_18 ⟨Nat.zero_le _, Nat.zero_le _⟩ (fun uq H locs hu hw _ _ => ?_)
  rw [hu] at hw
  have exit : ∀ (n : Nat) (u : St) (H : Heap) (locs : List Loc) (ls : Array Slot), (u, n) = cyL co 80 (raL co 4 (su (su σ 7 co 5) 8 co 0)) 0 → lv_has ls 3 [(0, .ref oA), (1, .int (nI co)), (2, .int (nI n))] → wd0 dC dI A sT.heap oA qA dA u H locs → W pG l eN R sT mD aR bL mT cD H locs 0 0 Q (F0 mD 53 ls []) := by
    intro n u H locs ls hX hl hw
    refine lv_aload_n hx hb dX0_carryOn_53 rfl (lv_at hl 0 rfl) ?_
    refine r0_get X hw 7 (by decide) q39 rfl rfl dX0_carryOn_54 ?_
    refine lv_iload_n hx hb dX0_carryOn_57 rfl (lv_at hl 1 rfl) ?_
    refine r0_ald X hw 6 (k := 7) rfl co rfl (show co < _ by first | assumption | (simp only [fl0]; omega)) dX0_carryOn_58 ?_
    refine lv_iconst (v := 5) hx hb dX0_carryOn_59 (by decide) ?_
    refine lv_icmp_ne (tgt := 70) hx hb dX0_carryOn_60 (by decide) (fun c60 => ?_) (fun c60 => ?_)
    · refine lv_aload_n hx hb dX0_carryOn_70 rfl (lv_at hl 0 rfl) ?_
      refine r0_get X hw 9 (by decide) q41 rfl rfl dX0_carryOn_71 ?_
      refine lv_iload_n hx hb dX0_carryOn_74 rfl (lv_at hl 1 rfl) ?_
      refine lv_iload_n hx hb dX0_carryOn_75 rfl (lv_at hl 2 rfl) ?_
      refine r0_ast X hw 8 (k := 9) rfl co rfl (show co < _ by first | assumption | (simp only [fl0]; omega)) dX0_carryOn_76 (fun H locs hw => ?_)
      exact hret _ _ _ _ _ dX0_carryOn_77 (by rw [cy, ← hX, cyE, if_neg c60]) hw
    · refine lv_aload_n hx hb dX0_carryOn_63 rfl (lv_at hl 0 rfl) ?_
      refine lv_iload_n hx hb dX0_carryOn_64 rfl (lv_at hl 1 rfl) ?_
      refine lv_iconst (v := 4) hx hb dX0_carryOn_65 (by decide) ?_
      refine lv_iconst (v := 0) hx hb dX0_carryOn_66 (by decide) ?_
      refine r0_callv (rest := []) 3 X hA hw (k0_finish l u co 4 0 hco) (lw_V q144 q146 qs11 q22 q147) (by decide +kernel) rfl (by rw [hR]; exact ⟨Nat.le_of_ble_eq_true rfl, Nat.le_of_ble_eq_true rfl⟩) hl.1 rfl (Nat.le_of_ble_eq_true rfl) dX0_carryOn_67 ⟨Nat.zero_le _, Nat.zero_le _⟩ (fun uq H locs hu hw _ _ => ?_)
      rw [hu] at hw
      refine lv_aload_n hx hb dX0_carryOn_70 rfl (lv_at hl 0 rfl) ?_
      refine r0_get X hw 9 (by decide) q41 rfl rfl dX0_carryOn_71 ?_
      refine lv_iload_n hx hb dX0_carryOn_74 rfl (lv_at hl 1 rfl) ?_
      refine lv_iload_n hx hb dX0_carryOn_75 rfl (lv_at hl 2 rfl) ?_
      refine r0_ast X hw 8 (k := 9) rfl co rfl (show co < _ by first | assumption | (simp only [fl0]; omega)) dX0_carryOn_76 (fun H locs hw => ?_)
      exact hret _ _ _ _ _ dX0_carryOn_77 (by rw [cy, ← hX, cyE, if_pos c60]) hw
  have loop : ∀ (k n : Nat) (u v : St) (H : Heap) (locs : List Loc) (ls : Array Slot), n + k = 80 → Endd u v co → cyL co k u n = cyL co 80 (raL co 4 (su (su σ 7 co 5) 8 co 0)) 0 → lv_has ls 3 [(0, .ref oA), (1, .int (nI co)), (2, .int (nI n))] → wd0 dC dI A sT.heap oA qA dA u H locs → W pG l eN R sT mD aR bL mT cD H locs 0 0 Q (F0 mD 21 ls []) := by
    intro k
    induction k with
    | zero =>
      intro n u v H locs ls hk hE hL hl hw
      refine lv_iload_n hx hb dX0_carryOn_21 rfl (lv_at hl 2 rfl) ?_
      refine lv_bipush (v := nI 80) hx hb dX0_carryOn_22 (by decide) ?_
      refine lv_icmp_ge (tgt := 53) hx hb dX0_carryOn_24 (by decide) (fun c24 => ?_) (fun c24 => ?_)
      · exact exit n u _ _ _ hL (lv_sub hl [0, 1, 2] rfl) hw
      · exact absurd (nI_le (by omega) (by omega)) c24
    | succ k ih =>
      intro n u v H locs ls hk hE hL hl hw
      refine lv_iload_n hx hb dX0_carryOn_21 rfl (lv_at hl 2 rfl) ?_
      refine lv_bipush (v := nI 80) hx hb dX0_carryOn_22 (by decide) ?_
      refine lv_icmp_ge (tgt := 53) hx hb dX0_carryOn_24 (by decide) (fun c24 => ?_) (fun c24 => ?_)
      · exact absurd c24 (nI_ge (by omega) (by decide))
      · refine lv_aload_n hx hb dX0_carryOn_27 rfl (lv_at hl 0 rfl) ?_
        refine r0_get X hw 7 (by decide) q39 rfl rfl dX0_carryOn_28 ?_
        refine lv_iload_n hx hb dX0_carryOn_31 rfl (lv_at hl 1 rfl) ?_
        refine r0_ald X hw 6 (k := 7) rfl co rfl (show co < _ by first | assumption | (simp only [fl0]; omega)) dX0_carryOn_32 ?_
        refine lv_iconst (v := 5) hx hb dX0_carryOn_33 (by decide) ?_
        refine lv_icmp_ne (tgt := 53) hx hb dX0_carryOn_34 (by decide) (fun c34 => ?_) (fun c34 => ?_)
        · exact exit n u _ _ _ (by rw [← hL, cyL, if_neg c34]) (lv_sub hl [0, 1, 2] rfl) hw
        · obtain ⟨d, hr, hpe⟩ := hE.run c34
          obtain ⟨hd, ed, hsz, hrg, hfr, -⟩ := hr.un
          obtain ⟨f, p, hf, hp, -, ef, ep, tf, tp, -⟩ := hr.pl hpe
          have es := (hr.stp_eq hf hp ef ep tf tp).1
          obtain ⟨n1, n2, -⟩ := hr.next hpe
          refine lv_aload_n hx hb dX0_carryOn_37 rfl (lv_at hl 0 rfl) ?_
          refine lv_iload_n hx hb dX0_carryOn_38 rfl (lv_at hl 1 rfl) ?_
          refine r0_callv (rest := []) 1 X hA hw (k0_perform l u co d f p hco hd ed hsz hrg hf hp ef ep hfr) (lw_V q148 q150 qs12 q22 q151) (by decide +kernel) rfl (by rw [hR]; exact ⟨Nat.le_of_ble_eq_true rfl, Nat.le_of_ble_eq_true rfl⟩) hl.1 rfl (Nat.le_of_ble_eq_true rfl) dX0_carryOn_39 ⟨Nat.zero_le _, Nat.zero_le _⟩ (fun uq H locs hu hw _ _ => ?_)
          rw [hu] at hw
          rw [← es] at hw
          refine lv_iinc (v := nI (n + 1)) (lv' := [(2, .int (nI (n + 1))), (0, .ref oA), (1, .int (nI co))]) hx hb dX0_carryOn_42 hl (k := 2) rfl (nI_1 _) (by decide) rfl (fun ls hl => ?_)
          refine lv_aload_n hx hb dX0_carryOn_45 rfl (lv_at hl 1 rfl) ?_
          refine lv_iload_n hx hb dX0_carryOn_46 rfl (lv_at hl 2 rfl) ?_
          refine r0_callv (rest := []) 1 X hA hw (k0_returnAtEnd l (stp u co) (ct1 v co) co hco n1) (lw_V q132 q134 qs8 q22 q135) (by decide +kernel) rfl (by rw [hR]; exact ⟨Nat.le_of_ble_eq_true rfl, Nat.le_of_ble_eq_true rfl⟩) hl.1 rfl (Nat.le_of_ble_eq_true rfl) dX0_carryOn_47 ⟨Nat.zero_le _, Nat.zero_le _⟩ (fun uq H locs hu hw _ _ => ?_)
          rw [hu] at hw
          refine lv_goto (tgt := 21) hx hb dX0_carryOn_50 (by decide) ?_
          exact ih (n + 1) _ _ _ _ _ (by omega) n2 (by rw [← hL, cyL, if_pos c34]) (lv_sub hl [1, 2, 0] rfl) hw
  exact loop 80 0 _ _ _ _ _ rfl (ra_sim 4 hRun hRun.1.2.2.1).1 rfl (lv_sub hl [1, 2, 0] rfl) hw

set_option maxHeartbeats 400000 in
theorem k0_goOn (l : Launch) (σ τ : St) (co : Nat) (v : Int32) (hco : co < 4) (hInv : Inv σ τ) (hst : σ 7 co = 1 ∨ σ 7 co = 2) : Ci0 l yX0_goOn cX0_goOn 3 .int 6 144 [.int (nI co), .int v] σ (fun r u => r = (go σ co v) 7 co ∧ u = go σ co v) := by
  obtain ⟨hI1, h51, hfx, ne⟩ := anz_inv hInv
  have hst1 : anz σ 7 co = 1 ∨ anz σ 7 co = 2 := by rw [ne 7 (by decide) (by decide)]; exact hst
  obtain ⟨d, f, hd, hf, ed, eF, -, hP⟩ := (hI1.2.2 co hco).top hst1
  obtain ⟨d2, ed2, hRun, -, -⟩ := up_sim v hI1.1 hfx (hI1.2.2 co hco) hst1
  obtain rfl : d = d2 := by rw [ed, cn_nI (by omega)] at ed2; omega
  have hsz0 : szw σ := hInv.1.2.2.2.2.2.1
  have hsz : szw (anz σ) := hI1.1.2.2.2.2.2.1
  have hrg : rgw (anz σ) := hI1.1.rg
  have ego : go σ co v = cy (go2 (anz σ) co v (co * 4 + d)) co := by rw [go, ← ne 10 (by decide) (by decide), ed, cn_nI (by omega)]; rfl
  have hP0 : anz σ 12 (co * 4 + d) < 0 ∨ ∃ p, p < 8 ∧ anz σ 12 (co * 4 + d) = nI p := by
    rcases hP with ⟨-, e⟩ | ⟨-, p, hp, e, -⟩
    · exact Or.inl (by rw [e]; decide)
    · exact Or.inr ⟨p, hp, e⟩
  refine e0_i (by decide) rfl (fun _ => Nat.le_of_ble_eq_true rfl) ?_
  intro pG eN R sT mD aR bL mT cD Q dC dI A oA qA dA hR X hA hret ls hl hw
  have hx := X.1.1
  have hb := X.1.2.1
  have hl : lv_has ls 3 [(0, .ref oA), (1, .int (nI co)), (2, .int v)] := hl
  refine lv_aload_n hx hb dX0_goOn_0 rfl (lv_at hl 0 rfl) ?_
  refine r0_callv (rest := []) 0 X hA hw (k0_analyse l σ hsz0) (lw_V q104 q106 qs1 q22 q107) (by decide +kernel) rfl (by rw [hR]; exact ⟨Nat.le_of_ble_eq_true rfl, Nat.le_of_ble_eq_true rfl⟩) hl.1 rfl (Nat.le_of_ble_eq_true rfl) dX0_goOn_1 ⟨Nat.zero_le _, Nat.zero_le _⟩ (fun uq H locs hu hw _ _ => ?_)
  rw [hu] at hw
  refine lv_aload_n hx hb dX0_goOn_4 rfl (lv_at hl 0 rfl) ?_
  refine lv_iload_n hx hb dX0_goOn_5 rfl (lv_at hl 1 rfl) ?_
  refine lv_aload_n hx hb dX0_goOn_6 rfl (lv_at hl 0 rfl) ?_
  refine r0_get X hw 10 (by decide) q42 rfl rfl dX0_goOn_7 ?_
  refine lv_iload_n hx hb dX0_goOn_10 rfl (lv_at hl 1 rfl) ?_
  refine r0_ald X hw 9 (k := 10) rfl co rfl (show co < _ by first | assumption | (simp only [fl0]; omega)) dX0_goOn_11 ?_
  refine x_top (y := nI (d + 1)) ed ?_
  refine lv_iconst (v := 1) hx hb dX0_goOn_12 (by decide) ?_
  refine lv_isub hx hb dX0_goOn_13 ?_
  refine x_top (y := nI d) (nI_pred d) ?_
  refine r0_callv (rest := []) 2 X hA hw (k0_unpack l (anz σ) co d f hco hd hf eF hP0 hsz) (lw_V q120 q122 qs5 q22 q123) (by decide +kernel) rfl (by rw [hR]; exact ⟨Nat.le_of_ble_eq_true rfl, Nat.le_of_ble_eq_true rfl⟩) hl.1 rfl (Nat.le_of_ble_eq_true rfl) dX0_goOn_14 ⟨Nat.zero_le _, Nat.zero_le _⟩ (fun uq H locs hu hw _ _ => ?_)
  rw [hu] at hw
  refine lv_aload_n hx hb dX0_goOn_17 rfl (lv_at hl 0 rfl) ?_
  refine r0_get X hw 7 (by decide) q39 rfl rfl dX0_goOn_18 ?_
  refine lv_iload_n hx hb dX0_goOn_21 rfl (lv_at hl 1 rfl) ?_
  refine r0_ald X hw 6 (k := 7) rfl co rfl (show co < _ by first | assumption | (simp only [fl0]; omega)) dX0_goOn_22 ?_
  refine x_top (y := anz σ 7 co) (by rw [up0_ne _ _ (by decide), up1_ne _ _ (by decide) (by decide) (by decide)]) ?_
  refine lv_iconst (v := 2) hx hb dX0_goOn_23 (by decide) ?_
  refine lv_icmp_ne (tgt := 50) hx hb dX0_goOn_24 (by decide) (fun c24 => ?_) (fun c24 => ?_)
  · refine lv_aload_n hx hb dX0_goOn_50 rfl (lv_at hl 0 rfl) ?_
    refine lv_dup hx hb dX0_goOn_51 rfl ?_
    refine r0_get X hw 15 (by decide) q47 rfl rfl dX0_goOn_52 ?_
    refine x_top (y := anz σ 12 (co * 4 + d)) (up0_15 _ _) ?_
    refine lv_iconst (v := 1) hx hb dX0_goOn_55 (by decide) ?_
    refine lv_iadd hx hb dX0_goOn_56 ?_
    refine r0_putp X hw dX0_goOn_57 (fun H locs hw => ?_)
    have e2 : su (up0 (anz σ) (co * 4 + d)) 15 0 ((anz σ 12 (co * 4 + d)) + 1) = go2 (anz σ) co v (co * 4 + d) := by rw [go2, go1, if_neg c24]
    rw [e2] at hw
    refine lv_aload_n hx hb dX0_goOn_60 rfl (lv_at hl 0 rfl) ?_
    refine lv_iload_n hx hb dX0_goOn_61 rfl (lv_at hl 1 rfl) ?_
    refine r0_callv (rest := []) 1 X hA hw (k0_carryOn l (go2 (anz σ) co v (co * 4 + d)) _ co d hco hRun) (lw_V q128 q130 qs7 q22 q131) (by decide +kernel) rfl (by rw [hR]; exact ⟨Nat.le_of_ble_eq_true rfl, Nat.le_of_ble_eq_true rfl⟩) hl.1 rfl (Nat.le_of_ble_eq_true rfl) dX0_goOn_62 ⟨Nat.zero_le _, Nat.zero_le _⟩ (fun uq H locs hu hw _ _ => ?_)
    rw [hu] at hw
    rw [← ego] at hw
    refine lv_aload_n hx hb dX0_goOn_65 rfl (lv_at hl 0 rfl) ?_
    refine r0_get X hw 7 (by decide) q39 rfl rfl dX0_goOn_66 ?_
    refine lv_iload_n hx hb dX0_goOn_69 rfl (lv_at hl 1 rfl) ?_
    refine r0_ald X hw 6 (k := 7) rfl co rfl (show co < _ by first | assumption | (simp only [fl0]; omega)) dX0_goOn_70 ?_
    exact hret _ _ _ _ _ _ dX0_goOn_71 rfl ⟨rfl, rfl⟩ hw
  · obtain ⟨p, hp, eP, -⟩ := (hP.resolve_left (fun h => absurd (h.1.symm.trans c24) (by decide))).2
    obtain ⟨-, ⟨b, hb4, eb⟩⟩ := hrg (f * 8 + p)
    refine lv_aload_n hx hb dX0_goOn_27 rfl (lv_at hl 0 rfl) ?_
    refine r0_get X hw 16 (by decide) q48 rfl rfl dX0_goOn_28 ?_
    refine lv_aload_n hx hb dX0_goOn_31 rfl (lv_at hl 0 rfl) ?_
    refine r0_get X hw 3 (by decide) q35 rfl rfl dX0_goOn_32 ?_
    refine lv_aload_n hx hb dX0_goOn_35 rfl (lv_at hl 0 rfl) ?_
    refine r0_get X hw 14 (by decide) q46 rfl rfl dX0_goOn_36 ?_
    refine x_top (y := nI f) ((up0_14 _ _).trans eF) ?_
    refine lv_bipush (v := nI 8) hx hb dX0_goOn_39 (by decide) ?_
    refine lv_imul hx hb dX0_goOn_41 ?_
    refine lv_aload_n hx hb dX0_goOn_42 rfl (lv_at hl 0 rfl) ?_
    refine r0_get X hw 15 (by decide) q47 rfl rfl dX0_goOn_43 ?_
    refine x_top (y := nI p) ((up0_15 _ _).trans eP) ?_
    refine lv_iadd hx hb dX0_goOn_46 ?_
    refine x_top (y := nI (f * 8 + p)) (by rw [pk_mul, nI_add]) ?_
    refine r0_ald X hw 3 (k := 3) rfl (f * 8 + p) rfl (show (f * 8 + p) < _ by first | assumption | (simp only [fl0]; omega)) dX0_goOn_47 ?_
    refine x_top (y := nI b) (by rw [(sm_up0 (anz σ) (co * 4 + d)).2.2.2.1]; exact eb) ?_
    refine lv_iload_n hx hb dX0_goOn_48 rfl (lv_at hl 2 rfl) ?_
    refine r0_ast X hw 13 (k := 16) rfl b rfl (show b < _ by first | assumption | (simp only [fl0]; omega)) dX0_goOn_49 (fun H locs hw => ?_)
    refine lv_aload_n hx hb dX0_goOn_50 rfl (lv_at hl 0 rfl) ?_
    refine lv_dup hx hb dX0_goOn_51 rfl ?_
    refine r0_get X hw 15 (by decide) q47 rfl rfl dX0_goOn_52 ?_
    refine x_top (y := nI p) (by rw [su_oth (by omega), up0_15]; exact eP) ?_
    refine lv_iconst (v := 1) hx hb dX0_goOn_55 (by decide) ?_
    refine lv_iadd hx hb dX0_goOn_56 ?_
    refine r0_putp X hw dX0_goOn_57 (fun H locs hw => ?_)
    have e2 : su (su (up0 (anz σ) (co * 4 + d)) 16 b v) 15 0 ((nI p) + 1) = go2 (anz σ) co v (co * 4 + d) := by rw [go2, go1, if_pos c24, eF, eP, cn_nI (by omega), cn_nI (by omega), eb, cn_nI (by omega)]
    rw [e2] at hw
    refine lv_aload_n hx hb dX0_goOn_60 rfl (lv_at hl 0 rfl) ?_
    refine lv_iload_n hx hb dX0_goOn_61 rfl (lv_at hl 1 rfl) ?_
    refine r0_callv (rest := []) 1 X hA hw (k0_carryOn l (go2 (anz σ) co v (co * 4 + d)) _ co d hco hRun) (lw_V q128 q130 qs7 q22 q131) (by decide +kernel) rfl (by rw [hR]; exact ⟨Nat.le_of_ble_eq_true rfl, Nat.le_of_ble_eq_true rfl⟩) hl.1 rfl (Nat.le_of_ble_eq_true rfl) dX0_goOn_62 ⟨Nat.zero_le _, Nat.zero_le _⟩ (fun uq H locs hu hw _ _ => ?_)
    rw [hu] at hw
    rw [← ego] at hw
    refine lv_aload_n hx hb dX0_goOn_65 rfl (lv_at hl 0 rfl) ?_
    refine r0_get X hw 7 (by decide) q39 rfl rfl dX0_goOn_66 ?_
    refine lv_iload_n hx hb dX0_goOn_69 rfl (lv_at hl 1 rfl) ?_
    refine r0_ald X hw 6 (k := 7) rfl co rfl (show co < _ by first | assumption | (simp only [fl0]; omega)) dX0_goOn_70 ?_
    exact hret _ _ _ _ _ _ dX0_goOn_71 rfl ⟨rfl, rfl⟩ hw

set_option maxHeartbeats 400000 in
theorem k0_resume (l : Launch) (σ τ : St) (x v : Int32) (hInv : Inv σ τ) : Ci0 l yX0_resume cX0_resume 3 .int 7 166 [.int x, .int v] σ (fun r u => r = (rs0 σ x v).1 ∧ u = (rs0 σ x v).2) := by
  refine e0_i (by decide) rfl (fun _ => Nat.le_of_ble_eq_true rfl) ?_
  intro pG eN R sT mD aR bL mT cD Q dC dI A oA qA dA hR X hA hret ls hl hw
  have hx := X.1.1
  have hb := X.1.2.1
  have hl : lv_has ls 3 [(0, .ref oA), (1, .int x), (2, .int v)] := hl
  refine lv_iload_n hx hb dX0_resume_0 rfl (lv_at hl 1 rfl) ?_
  refine x_bad X (by rw [hR]; exact ⟨Nat.le_of_ble_eq_true rfl, Nat.le_of_ble_eq_true rfl⟩) hl.1 (Nat.le_of_ble_eq_true rfl) dX0_resume_1 ⟨Nat.zero_le _, Nat.zero_le _⟩ ?_
  refine lv_if_eq (tgt := 9) hx hb dX0_resume_4 (by decide) (fun c4 => ?_) (fun c4 => ?_)
  · obtain ⟨k, hk, rfl⟩ := bd_ok c4
    refine lv_aload_n hx hb dX0_resume_9 rfl (lv_at hl 0 rfl) ?_
    refine r0_get X hw 7 (by decide) q39 rfl rfl dX0_resume_10 ?_
    refine lv_iload_n hx hb dX0_resume_13 rfl (lv_at hl 1 rfl) ?_
    refine r0_ald X hw 6 (k := 7) rfl k rfl (show k < _ by first | assumption | (simp only [fl0]; omega)) dX0_resume_14 ?_
    refine lv_iconst (v := 1) hx hb dX0_resume_15 (by decide) ?_
    refine lv_icmp_eq (tgt := 32) hx hb dX0_resume_16 (by decide) (fun c16 => ?_) (fun c16 => ?_)
    · refine lv_aload_n hx hb dX0_resume_32 rfl (lv_at hl 0 rfl) ?_
      refine lv_iload_n hx hb dX0_resume_33 rfl (lv_at hl 1 rfl) ?_
      refine lv_iload_n hx hb dX0_resume_34 rfl (lv_at hl 2 rfl) ?_
      refine r0_calli (rest := []) 2 X hA hw (k0_goOn l σ τ k v hk hInv (Or.inl c16)) (lw_V q100 q102 qs0 q22 q103) (by decide +kernel) rfl (by rw [hR]; exact ⟨Nat.le_of_ble_eq_true rfl, Nat.le_of_ble_eq_true rfl⟩) hl.1 rfl (Nat.le_of_ble_eq_true rfl) dX0_resume_35 ⟨Nat.zero_le _, Nat.zero_le _⟩ (fun rq uq H locs hu hw _ _ => ?_)
      obtain ⟨er, hu⟩ := hu
      rw [hu] at hw
      rw [er]
      exact hret _ _ _ _ _ _ dX0_resume_38 rfl ⟨by rw [rs0, if_pos c4, cn_nI (by omega), if_pos (Or.inl c16)], by rw [rs0, if_pos c4, cn_nI (by omega), if_pos (Or.inl c16)]⟩ hw
    · refine lv_aload_n hx hb dX0_resume_19 rfl (lv_at hl 0 rfl) ?_
      refine r0_get X hw 7 (by decide) q39 rfl rfl dX0_resume_20 ?_
      refine lv_iload_n hx hb dX0_resume_23 rfl (lv_at hl 1 rfl) ?_
      refine r0_ald X hw 6 (k := 7) rfl k rfl (show k < _ by first | assumption | (simp only [fl0]; omega)) dX0_resume_24 ?_
      refine lv_iconst (v := 2) hx hb dX0_resume_25 (by decide) ?_
      refine lv_icmp_eq (tgt := 32) hx hb dX0_resume_26 (by decide) (fun c26 => ?_) (fun c26 => ?_)
      · refine lv_aload_n hx hb dX0_resume_32 rfl (lv_at hl 0 rfl) ?_
        refine lv_iload_n hx hb dX0_resume_33 rfl (lv_at hl 1 rfl) ?_
        refine lv_iload_n hx hb dX0_resume_34 rfl (lv_at hl 2 rfl) ?_
        refine r0_calli (rest := []) 2 X hA hw (k0_goOn l σ τ k v hk hInv (Or.inr c26)) (lw_V q100 q102 qs0 q22 q103) (by decide +kernel) rfl (by rw [hR]; exact ⟨Nat.le_of_ble_eq_true rfl, Nat.le_of_ble_eq_true rfl⟩) hl.1 rfl (Nat.le_of_ble_eq_true rfl) dX0_resume_35 ⟨Nat.zero_le _, Nat.zero_le _⟩ (fun rq uq H locs hu hw _ _ => ?_)
        obtain ⟨er, hu⟩ := hu
        rw [hu] at hw
        rw [er]
        exact hret _ _ _ _ _ _ dX0_resume_38 rfl ⟨by rw [rs0, if_pos c4, cn_nI (by omega), if_pos (Or.inr c26)], by rw [rs0, if_pos c4, cn_nI (by omega), if_pos (Or.inr c26)]⟩ hw
      · refine lv_bipush (v := (-4)) hx hb dX0_resume_29 (by decide) ?_
        exact hret _ _ _ _ _ _ dX0_resume_31 rfl ⟨by rw [rs0, if_pos c4, cn_nI (by omega), if_neg (fun h => h.elim c16 c26)], by rw [rs0, if_pos c4, cn_nI (by omega), if_neg (fun h => h.elim c16 c26)]⟩ hw
  · refine lv_iconst (v := (-1)) hx hb dX0_resume_7 (by decide) ?_
    exact hret _ _ _ _ _ _ dX0_resume_8 rfl ⟨by rw [rs0, if_neg c4], by rw [rs0, if_neg c4]⟩ hw

set_option maxHeartbeats 400000 in
theorem k0_echo (l : Launch) (σ τ : St) (x n : Int32) (hInv : Inv σ τ) : Ci0 l yX0_echo cX0_echo 6 .int 7 166 [.int x, .int n] σ (fun r u => r = (ec0 σ x n).1 ∧ u = (ec0 σ x n).2) := by
  refine e0_i (by decide) rfl (fun _ => Nat.le_of_ble_eq_true rfl) ?_
  intro pG eN R sT mD aR bL mT cD Q dC dI A oA qA dA hR X hA hret ls hl hw
  have hx := X.1.1
  have hb := X.1.2.1
  have hl : lv_has ls 6 [(0, .ref oA), (1, .int x), (2, .int n)] := hl
  refine lv_iload_n hx hb dX0_echo_0 rfl (lv_at hl 1 rfl) ?_
  refine x_bad X (by rw [hR]; exact ⟨Nat.le_of_ble_eq_true rfl, Nat.le_of_ble_eq_true rfl⟩) hl.1 (Nat.le_of_ble_eq_true rfl) dX0_echo_1 ⟨Nat.zero_le _, Nat.zero_le _⟩ ?_
  refine lv_if_eq (tgt := 9) hx hb dX0_echo_4 (by decide) (fun c4 => ?_) (fun c4 => ?_)
  · obtain ⟨co, hco, rfl⟩ := bd_ok c4
    refine lv_aload_n hx hb dX0_echo_9 rfl (lv_at hl 0 rfl) ?_
    refine r0_get X hw 7 (by decide) q39 rfl rfl dX0_echo_10 ?_
    refine lv_iload_n hx hb dX0_echo_13 rfl (lv_at hl 1 rfl) ?_
    refine r0_ald X hw 6 (k := 7) rfl co rfl (show co < _ by first | assumption | (simp only [fl0]; omega)) dX0_echo_14 ?_
    refine lv_iconst (v := 2) hx hb dX0_echo_15 (by decide) ?_
    refine lv_icmp_eq (tgt := 22) hx hb dX0_echo_16 (by decide) (fun c16 => ?_) (fun c16 => ?_)
    · have hm20 := mo_le n
      refine lv_iload_n hx hb dX0_echo_22 rfl (lv_at hl 2 rfl) ?_
      refine lv_bipush (v := 20) hx hb dX0_echo_23 (by decide) ?_
      refine lv_icmp_le (tgt := 33) hx hb dX0_echo_25 (by decide) (fun c25 => ?_) (fun c25 => ?_)
      · refine lv_iload_n hx hb dX0_echo_33 rfl (lv_at hl 2 rfl) ?_
        refine x_top (y := mo n) (by rw [mo, if_pos c25]) ?_
        refine lv_istore_n (lv' := [(3, .int (mo n)), (0, .ref oA), (1, .int (nI co)), (2, .int n)]) hx hb dX0_echo_34 rfl hl (by decide) rfl (fun ls hl => ?_)
        refine lv_iconst (v := 0) hx hb dX0_echo_35 (by decide) ?_
        refine lv_istore (lv' := [(4, .int 0), (3, .int (mo n)), (0, .ref oA), (1, .int (nI co)), (2, .int n)]) hx hb dX0_echo_36 hl (by decide) rfl (fun ls hl => ?_)
        refine lv_iconst (v := nI 0) hx hb dX0_echo_38 (by decide) ?_
        refine lv_istore (lv' := [(5, .int (nI 0)), (4, .int 0), (3, .int (mo n)), (0, .ref oA), (1, .int (nI co)), (2, .int n)]) hx hb dX0_echo_39 hl (by decide) rfl (fun ls hl => ?_)
        have loop : ∀ (k i : Nat) (u v : St) (z : Int32) (H : Heap) (locs : List Loc) (ls : Array Slot), i + k = cn (mo n) → Inv u v → ecL co k u z = ecL co (cn (mo n)) σ 0 → lv_has ls 6 [(0, .ref oA), (1, .int (nI co)), (3, .int (mo n)), (4, .int z), (5, .int (nI i))] → wd0 dC dI A sT.heap oA qA dA u H locs → W pG l eN R sT mD aR bL mT cD H locs 0 0 Q (F0 mD 41 ls []) := by
          intro k
          induction k with
          | zero =>
            intro i u v z H locs ls hk hI hL hl hw
            refine lv_iload hx hb dX0_echo_41 (lv_at hl 4 rfl) ?_
            refine lv_iload_n hx hb dX0_echo_43 rfl (lv_at hl 2 rfl) ?_
            refine lv_icmp_ge (tgt := 86) hx hb dX0_echo_44 (by decide) (fun c44 => ?_) (fun c44 => ?_)
            · refine lv_iload hx hb dX0_echo_86 (lv_at hl 3 rfl) ?_
              exact hret _ _ _ _ _ _ dX0_echo_88 rfl ⟨by rw [ec0, if_pos c4, cn_nI (by omega), if_pos c16, ← hL]; rfl, by rw [ec0, if_pos c4, cn_nI (by omega), if_pos c16, ← hL]; rfl⟩ hw
            · exact absurd (Int32.not_lt.mp (mt (lt_cn (by omega)).mp (by omega))) c44
          | succ k ih =>
            intro i u v z H locs ls hk hI hL hl hw
            refine lv_iload hx hb dX0_echo_41 (lv_at hl 4 rfl) ?_
            refine lv_iload_n hx hb dX0_echo_43 rfl (lv_at hl 2 rfl) ?_
            refine lv_icmp_ge (tgt := 86) hx hb dX0_echo_44 (by decide) (fun c44 => ?_) (fun c44 => ?_)
            · exact absurd ((lt_cn (by omega)).mpr (by omega)) (Int32.not_lt.mpr c44)
            · refine lv_aload_n hx hb dX0_echo_47 rfl (lv_at hl 0 rfl) ?_
              refine r0_get X hw 7 (by decide) q39 rfl rfl dX0_echo_48 ?_
              refine lv_iload_n hx hb dX0_echo_51 rfl (lv_at hl 1 rfl) ?_
              refine r0_ald X hw 6 (k := 7) rfl co rfl (show co < _ by first | assumption | (simp only [fl0]; omega)) dX0_echo_52 ?_
              refine lv_iconst (v := 2) hx hb dX0_echo_53 (by decide) ?_
              refine lv_icmp_ne (tgt := 86) hx hb dX0_echo_54 (by decide) (fun c54 => ?_) (fun c54 => ?_)
              · refine lv_iload hx hb dX0_echo_86 (lv_at hl 3 rfl) ?_
                exact hret _ _ _ _ _ _ dX0_echo_88 rfl ⟨by rw [ec0, if_pos c4, cn_nI (by omega), if_pos c16, ← hL, ecL, if_neg c54], by rw [ec0, if_pos c4, cn_nI (by omega), if_pos c16, ← hL, ecL, if_neg c54]⟩ hw
              · have hg := go_sim (u 8 co) hI hco (Or.inr c54)
                refine lv_aload_n hx hb dX0_echo_57 rfl (lv_at hl 0 rfl) ?_
                refine lv_iload_n hx hb dX0_echo_58 rfl (lv_at hl 1 rfl) ?_
                refine lv_aload_n hx hb dX0_echo_59 rfl (lv_at hl 0 rfl) ?_
                refine r0_get X hw 8 (by decide) q40 rfl rfl dX0_echo_60 ?_
                refine lv_iload_n hx hb dX0_echo_63 rfl (lv_at hl 1 rfl) ?_
                refine r0_ald X hw 7 (k := 8) rfl co rfl (show co < _ by first | assumption | (simp only [fl0]; omega)) dX0_echo_64 ?_
                refine r0_calli (rest := []) 2 X hA hw (k0_goOn l u v co (u 8 co) hco hI (Or.inr c54)) (lw_V q100 q102 qs0 q22 q103) (by decide +kernel) rfl (by rw [hR]; exact ⟨Nat.le_of_ble_eq_true rfl, Nat.le_of_ble_eq_true rfl⟩) hl.1 rfl (Nat.le_of_ble_eq_true rfl) dX0_echo_65 ⟨Nat.zero_le _, Nat.zero_le _⟩ (fun rq uq H locs hu hw _ _ => ?_)
                obtain ⟨er, hu⟩ := hu
                rw [hu] at hw
                rw [er]
                refine lv_pop hx hb dX0_echo_68 rfl ?_
                refine lv_iload hx hb dX0_echo_69 (lv_at hl 3 rfl) ?_
                refine lv_aload_n hx hb dX0_echo_71 rfl (lv_at hl 0 rfl) ?_
                refine r0_get X hw 8 (by decide) q40 rfl rfl dX0_echo_72 ?_
                refine lv_iload_n hx hb dX0_echo_75 rfl (lv_at hl 1 rfl) ?_
                refine r0_ald X hw 7 (k := 8) rfl co rfl (show co < _ by first | assumption | (simp only [fl0]; omega)) dX0_echo_76 ?_
                refine lv_iadd hx hb dX0_echo_77 ?_
                refine lv_istore (lv' := [(4, .int (z + ((go u co (u 8 co)) 8 co))), (0, .ref oA), (1, .int (nI co)), (3, .int (mo n)), (5, .int (nI i))]) hx hb dX0_echo_78 hl (by decide) rfl (fun ls hl => ?_)
                refine lv_iinc (v := nI (i + 1)) (lv' := [(5, .int (nI (i + 1))), (4, .int (z + ((go u co (u 8 co)) 8 co))), (0, .ref oA), (1, .int (nI co)), (3, .int (mo n))]) hx hb dX0_echo_80 hl (k := 4) rfl (nI_1 _) (by decide) rfl (fun ls hl => ?_)
                refine lv_goto (tgt := 41) hx hb dX0_echo_83 (by decide) ?_
                exact ih (i + 1) _ _ _ _ _ _ (by omega) hg (by rw [← hL, ecL, if_pos c54]) (lv_sub hl [2, 3, 4, 1, 0] rfl) hw
        exact loop (cn (mo n)) 0 σ τ 0 _ _ _ (by omega) hInv rfl (lv_sub hl [3, 4, 2, 1, 0] rfl) hw
      · refine lv_bipush (v := 20) hx hb dX0_echo_28 (by decide) ?_
        refine x_top (y := mo n) (by rw [mo, if_neg c25]) ?_
        refine lv_goto (tgt := 34) hx hb dX0_echo_30 (by decide) ?_
        refine lv_istore_n (lv' := [(3, .int (mo n)), (0, .ref oA), (1, .int (nI co)), (2, .int n)]) hx hb dX0_echo_34 rfl hl (by decide) rfl (fun ls hl => ?_)
        refine lv_iconst (v := 0) hx hb dX0_echo_35 (by decide) ?_
        refine lv_istore (lv' := [(4, .int 0), (3, .int (mo n)), (0, .ref oA), (1, .int (nI co)), (2, .int n)]) hx hb dX0_echo_36 hl (by decide) rfl (fun ls hl => ?_)
        refine lv_iconst (v := nI 0) hx hb dX0_echo_38 (by decide) ?_
        refine lv_istore (lv' := [(5, .int (nI 0)), (4, .int 0), (3, .int (mo n)), (0, .ref oA), (1, .int (nI co)), (2, .int n)]) hx hb dX0_echo_39 hl (by decide) rfl (fun ls hl => ?_)
        have loop : ∀ (k i : Nat) (u v : St) (z : Int32) (H : Heap) (locs : List Loc) (ls : Array Slot), i + k = cn (mo n) → Inv u v → ecL co k u z = ecL co (cn (mo n)) σ 0 → lv_has ls 6 [(0, .ref oA), (1, .int (nI co)), (3, .int (mo n)), (4, .int z), (5, .int (nI i))] → wd0 dC dI A sT.heap oA qA dA u H locs → W pG l eN R sT mD aR bL mT cD H locs 0 0 Q (F0 mD 41 ls []) := by
          intro k
          induction k with
          | zero =>
            intro i u v z H locs ls hk hI hL hl hw
            refine lv_iload hx hb dX0_echo_41 (lv_at hl 4 rfl) ?_
            refine lv_iload_n hx hb dX0_echo_43 rfl (lv_at hl 2 rfl) ?_
            refine lv_icmp_ge (tgt := 86) hx hb dX0_echo_44 (by decide) (fun c44 => ?_) (fun c44 => ?_)
            · refine lv_iload hx hb dX0_echo_86 (lv_at hl 3 rfl) ?_
              exact hret _ _ _ _ _ _ dX0_echo_88 rfl ⟨by rw [ec0, if_pos c4, cn_nI (by omega), if_pos c16, ← hL]; rfl, by rw [ec0, if_pos c4, cn_nI (by omega), if_pos c16, ← hL]; rfl⟩ hw
            · exact absurd (Int32.not_lt.mp (mt (lt_cn (by omega)).mp (by omega))) c44
          | succ k ih =>
            intro i u v z H locs ls hk hI hL hl hw
            refine lv_iload hx hb dX0_echo_41 (lv_at hl 4 rfl) ?_
            refine lv_iload_n hx hb dX0_echo_43 rfl (lv_at hl 2 rfl) ?_
            refine lv_icmp_ge (tgt := 86) hx hb dX0_echo_44 (by decide) (fun c44 => ?_) (fun c44 => ?_)
            · exact absurd ((lt_cn (by omega)).mpr (by omega)) (Int32.not_lt.mpr c44)
            · refine lv_aload_n hx hb dX0_echo_47 rfl (lv_at hl 0 rfl) ?_
              refine r0_get X hw 7 (by decide) q39 rfl rfl dX0_echo_48 ?_
              refine lv_iload_n hx hb dX0_echo_51 rfl (lv_at hl 1 rfl) ?_
              refine r0_ald X hw 6 (k := 7) rfl co rfl (show co < _ by first | assumption | (simp only [fl0]; omega)) dX0_echo_52 ?_
              refine lv_iconst (v := 2) hx hb dX0_echo_53 (by decide) ?_
              refine lv_icmp_ne (tgt := 86) hx hb dX0_echo_54 (by decide) (fun c54 => ?_) (fun c54 => ?_)
              · refine lv_iload hx hb dX0_echo_86 (lv_at hl 3 rfl) ?_
                exact hret _ _ _ _ _ _ dX0_echo_88 rfl ⟨by rw [ec0, if_pos c4, cn_nI (by omega), if_pos c16, ← hL, ecL, if_neg c54], by rw [ec0, if_pos c4, cn_nI (by omega), if_pos c16, ← hL, ecL, if_neg c54]⟩ hw
              · have hg := go_sim (u 8 co) hI hco (Or.inr c54)
                refine lv_aload_n hx hb dX0_echo_57 rfl (lv_at hl 0 rfl) ?_
                refine lv_iload_n hx hb dX0_echo_58 rfl (lv_at hl 1 rfl) ?_
                refine lv_aload_n hx hb dX0_echo_59 rfl (lv_at hl 0 rfl) ?_
                refine r0_get X hw 8 (by decide) q40 rfl rfl dX0_echo_60 ?_
                refine lv_iload_n hx hb dX0_echo_63 rfl (lv_at hl 1 rfl) ?_
                refine r0_ald X hw 7 (k := 8) rfl co rfl (show co < _ by first | assumption | (simp only [fl0]; omega)) dX0_echo_64 ?_
                refine r0_calli (rest := []) 2 X hA hw (k0_goOn l u v co (u 8 co) hco hI (Or.inr c54)) (lw_V q100 q102 qs0 q22 q103) (by decide +kernel) rfl (by rw [hR]; exact ⟨Nat.le_of_ble_eq_true rfl, Nat.le_of_ble_eq_true rfl⟩) hl.1 rfl (Nat.le_of_ble_eq_true rfl) dX0_echo_65 ⟨Nat.zero_le _, Nat.zero_le _⟩ (fun rq uq H locs hu hw _ _ => ?_)
                obtain ⟨er, hu⟩ := hu
                rw [hu] at hw
                rw [er]
                refine lv_pop hx hb dX0_echo_68 rfl ?_
                refine lv_iload hx hb dX0_echo_69 (lv_at hl 3 rfl) ?_
                refine lv_aload_n hx hb dX0_echo_71 rfl (lv_at hl 0 rfl) ?_
                refine r0_get X hw 8 (by decide) q40 rfl rfl dX0_echo_72 ?_
                refine lv_iload_n hx hb dX0_echo_75 rfl (lv_at hl 1 rfl) ?_
                refine r0_ald X hw 7 (k := 8) rfl co rfl (show co < _ by first | assumption | (simp only [fl0]; omega)) dX0_echo_76 ?_
                refine lv_iadd hx hb dX0_echo_77 ?_
                refine lv_istore (lv' := [(4, .int (z + ((go u co (u 8 co)) 8 co))), (0, .ref oA), (1, .int (nI co)), (3, .int (mo n)), (5, .int (nI i))]) hx hb dX0_echo_78 hl (by decide) rfl (fun ls hl => ?_)
                refine lv_iinc (v := nI (i + 1)) (lv' := [(5, .int (nI (i + 1))), (4, .int (z + ((go u co (u 8 co)) 8 co))), (0, .ref oA), (1, .int (nI co)), (3, .int (mo n))]) hx hb dX0_echo_80 hl (k := 4) rfl (nI_1 _) (by decide) rfl (fun ls hl => ?_)
                refine lv_goto (tgt := 41) hx hb dX0_echo_83 (by decide) ?_
                exact ih (i + 1) _ _ _ _ _ _ (by omega) hg (by rw [← hL, ecL, if_pos c54]) (lv_sub hl [2, 3, 4, 1, 0] rfl) hw
        exact loop (cn (mo n)) 0 σ τ 0 _ _ _ (by omega) hInv rfl (lv_sub hl [3, 4, 2, 1, 0] rfl) hw
    · refine lv_bipush (v := (-4)) hx hb dX0_echo_19 (by decide) ?_
      exact hret _ _ _ _ _ _ dX0_echo_21 rfl ⟨by rw [ec0, if_pos c4, cn_nI (by omega), if_neg c16], by rw [ec0, if_pos c4, cn_nI (by omega), if_neg c16]⟩ hw
  · refine lv_iconst (v := (-1)) hx hb dX0_echo_7 (by decide) ?_
    exact hret _ _ _ _ _ _ dX0_echo_8 rfl ⟨by rw [ec0, if_neg c4], by rw [ec0, if_neg c4]⟩ hw
end
section
set_option maxRecDepth 100000

set_option maxHeartbeats 400000 in
theorem k1_fallOff (l : Launch) (σ τ : St) (co : Nat) (hco : co < 4) (hAl : Alive σ τ co) : Cv1 l yX1_fallOff cX1_fallOff 4 2 46 [.int (nI co)] τ (fun u => u = foL co 4 τ) := by
  refine e1_v (by decide) rfl (fun _ => Nat.le_of_ble_eq_true rfl) ?_
  intro pG eN R sT mD aR bL mT cD Q dC dI A oA qA dA hR X hA hret ls hl hw
  have hx := X.1.1
  have hb := X.1.2.1
  have hl : lv_has ls 4 [(0, .ref oA), (1, .int (nI co))] := hl
  refine lv_iconst (v := 0) hx hb dX1_fallOff_0 (by decide) ?_
  refine lv_istore_n (lv' := [(2, .int 0), (0, .ref oA), (1, .int (nI co))]) hx hb dX1_fallOff_1 rfl hl (by decide) rfl (fun ls hl => ?_)
  have loop : ∀ (k r : Nat) (u v : St) (H : Heap) (locs : List Loc) (ls : Array Slot), r + k = 4 → Alive u v co → foL co k v = foL co 4 τ → lv_has ls 4 [(0, .ref oA), (1, .int (nI co)), (2, .int (nI r))] → wd1 dC dI A sT.heap oA qA dA v H locs → W pG l eN R sT mD aR bL mT cD H locs 0 0 Q (F0 mD 2 ls []) := by
    intro k
    induction k with
    | zero =>
      intro r u v H locs ls hk hAl hL hl hw
      refine lv_iload_n hx hb dX1_fallOff_2 rfl (lv_at hl 2 rfl) ?_
      refine lv_iconst (v := nI 4) hx hb dX1_fallOff_3 (by decide) ?_
      refine lv_icmp_ge (tgt := 80) hx hb dX1_fallOff_4 (by decide) (fun c4 => ?_) (fun c4 => ?_)
      · exact hret _ _ _ _ _ dX1_fallOff_80 hL hw
      · exact absurd (nI_le (by omega) (by omega)) c4
    | succ k ih =>
      intro r u v H locs ls hk hAl hL hl hw
      refine lv_iload_n hx hb dX1_fallOff_2 rfl (lv_at hl 2 rfl) ?_
      refine lv_iconst (v := nI 4) hx hb dX1_fallOff_3 (by decide) ?_
      refine lv_icmp_ge (tgt := 80) hx hb dX1_fallOff_4 (by decide) (fun c4 => ?_) (fun c4 => ?_)
      · exact absurd c4 (nI_ge (by omega) (by decide))
      · refine lv_aload_n hx hb dX1_fallOff_7 rfl (lv_at hl 0 rfl) ?_
        refine r1_get X hw 4 (by decide) q202 rfl rfl dX1_fallOff_8 ?_
        refine lv_iload_n hx hb dX1_fallOff_11 rfl (lv_at hl 1 rfl) ?_
        refine r1_ald X hw 4 (k := 4) rfl co rfl (show co < _ by first | assumption | (simp only [fl1]; omega)) dX1_fallOff_12 ?_
        refine lv_iconst (v := 1) hx hb dX1_fallOff_13 (by decide) ?_
        refine lv_icmp_ne (tgt := 74) hx hb dX1_fallOff_14 (by decide) (fun c14 => ?_) (fun c14 => ?_)
        · refine lv_iinc (v := nI (r + 1)) (lv' := [(2, .int (nI (r + 1))), (0, .ref oA), (1, .int (nI co))]) hx hb dX1_fallOff_74 hl (k := 2) rfl (nI_1 _) (by decide) rfl (fun ls hl => ?_)
          refine lv_goto (tgt := 2) hx hb dX1_fallOff_77 (by decide) ?_
          exact ih (r + 1) u v _ _ _ (by omega) hAl (by rw [← hL, foL, if_neg c14]) (lv_sub hl [1, 2, 0] rfl) hw
        · obtain ⟨d, hr⟩ := hAl.run1 c14
          obtain ⟨hd, -, hsz, -, -, ed, hgt, h4, -⟩ := hr.un
          obtain ⟨f, hf, -, tf, -⟩ := hr.2
          have ht := hr.tge
          refine lv_aload_n hx hb dX1_fallOff_17 rfl (lv_at hl 0 rfl) ?_
          refine r1_get X hw 7 (by decide) q205 rfl rfl dX1_fallOff_18 ?_
          refine lv_iload_n hx hb dX1_fallOff_21 rfl (lv_at hl 1 rfl) ?_
          refine r1_ald X hw 7 (k := 7) rfl co rfl (show co < _ by first | assumption | (simp only [fl1]; omega)) dX1_fallOff_22 ?_
          refine lv_if_le (tgt := 74) hx hb dX1_fallOff_23 (by decide) (fun c23 => ?_) (fun c23 => ?_)
          · exact absurd c23 (by rw [ed]; exact nI_nle (by omega) (by omega))
          · refine lv_iload_n hx hb dX1_fallOff_26 rfl (lv_at hl 1 rfl) ?_
            refine lv_iconst (v := nI 4) hx hb dX1_fallOff_27 (by decide) ?_
            refine lv_imul hx hb dX1_fallOff_28 ?_
            refine x_top (y := nI (co * 4)) (pk_mul _ _) ?_
            refine lv_aload_n hx hb dX1_fallOff_29 rfl (lv_at hl 0 rfl) ?_
            refine r1_get X hw 7 (by decide) q205 rfl rfl dX1_fallOff_30 ?_
            refine lv_iload_n hx hb dX1_fallOff_33 rfl (lv_at hl 1 rfl) ?_
            refine r1_ald X hw 7 (k := 7) rfl co rfl (show co < _ by first | assumption | (simp only [fl1]; omega)) dX1_fallOff_34 ?_
            refine x_top (y := nI (d + 1)) ed ?_
            refine lv_iadd hx hb dX1_fallOff_35 ?_
            refine x_top (y := nI (co * 4 + (d + 1))) (nI_add _ _) ?_
            refine lv_iconst (v := 1) hx hb dX1_fallOff_36 (by decide) ?_
            refine lv_isub hx hb dX1_fallOff_37 ?_
            refine x_top (y := nI (co * 4 + d)) (nI_pred (co * 4 + d)) ?_
            refine lv_istore_n (lv' := [(3, .int (nI (co * 4 + d))), (0, .ref oA), (1, .int (nI co)), (2, .int (nI r))]) hx hb dX1_fallOff_38 rfl hl (by decide) rfl (fun ls hl => ?_)
            refine lv_aload_n hx hb dX1_fallOff_39 rfl (lv_at hl 1 rfl) ?_
            refine r1_get X hw 9 (by decide) q207 rfl rfl dX1_fallOff_40 ?_
            refine lv_iload_n hx hb dX1_fallOff_43 rfl (lv_at hl 0 rfl) ?_
            refine r1_ald X hw 9 (k := 9) rfl (co * 4 + d) rfl (show (co * 4 + d) < _ by first | assumption | (simp only [fl1]; omega)) dX1_fallOff_44 ?_
            refine lv_if_lt (tgt := 68) hx hb dX1_fallOff_45 (by decide) (fun c45 => ?_) (fun c45 => ?_)
            · refine lv_aload_n hx hb dX1_fallOff_68 rfl (lv_at hl 1 rfl) ?_
              refine lv_iload_n hx hb dX1_fallOff_69 rfl (lv_at hl 2 rfl) ?_
              refine lv_iconst (v := 0) hx hb dX1_fallOff_70 (by decide) ?_
              refine r1_callv (rest := []) 2 X hA hw (k1_back l v co d 0 hco hd ed hgt) (lw_V q259 q261 qs18 q23 q262) (by decide +kernel) rfl (by rw [hR]; exact ⟨Nat.le_of_ble_eq_true rfl, Nat.le_of_ble_eq_true rfl⟩) hl.1 rfl (Nat.le_of_ble_eq_true rfl) dX1_fallOff_71 ⟨Nat.zero_le _, Nat.zero_le _⟩ (fun uq H locs hu hw _ _ => ?_)
              rw [hu] at hw
              refine lv_iinc (v := nI (r + 1)) (lv' := [(2, .int (nI (r + 1))), (3, .int (nI (co * 4 + d))), (0, .ref oA), (1, .int (nI co))]) hx hb dX1_fallOff_74 hl (k := 3) rfl (nI_1 _) (by decide) rfl (fun ls hl => ?_)
              refine lv_goto (tgt := 2) hx hb dX1_fallOff_77 (by decide) ?_
              exact ih (r + 1) _ _ _ _ _ (by omega) (hr.back 0) (by rw [← hL, foL, if_pos c14, if_neg c23, if_neg (by rw [pe1, ht, if_pos c45]; decide), ed, cn_nI (by omega)]; rfl) (lv_sub hl [2, 3, 0] rfl) hw
            · refine lv_aload_n hx hb dX1_fallOff_48 rfl (lv_at hl 1 rfl) ?_
              refine r1_get X hw 9 (by decide) q207 rfl rfl dX1_fallOff_49 ?_
              refine lv_iload_n hx hb dX1_fallOff_52 rfl (lv_at hl 0 rfl) ?_
              refine r1_ald X hw 9 (k := 9) rfl (co * 4 + d) rfl (show (co * 4 + d) < _ by first | assumption | (simp only [fl1]; omega)) dX1_fallOff_53 ?_
              refine lv_aload_n hx hb dX1_fallOff_54 rfl (lv_at hl 1 rfl) ?_
              refine r1_get X hw 0 (by decide) q198 rfl rfl dX1_fallOff_55 ?_
              refine lv_aload_n hx hb dX1_fallOff_58 rfl (lv_at hl 1 rfl) ?_
              refine r1_get X hw 8 (by decide) q206 rfl rfl dX1_fallOff_59 ?_
              refine lv_iload_n hx hb dX1_fallOff_62 rfl (lv_at hl 0 rfl) ?_
              refine r1_ald X hw 8 (k := 8) rfl (co * 4 + d) rfl (show (co * 4 + d) < _ by first | assumption | (simp only [fl1]; omega)) dX1_fallOff_63 ?_
              refine x_top (y := nI f) tf ?_
              refine r1_ald X hw 0 (k := 0) rfl f rfl (show f < _ by first | assumption | (simp only [fl1]; omega)) dX1_fallOff_64 ?_
              refine lv_icmp_lt (tgt := 74) hx hb dX1_fallOff_65 (by decide) (fun c65 => ?_) (fun c65 => ?_)
              · refine lv_iinc (v := nI (r + 1)) (lv' := [(2, .int (nI (r + 1))), (3, .int (nI (co * 4 + d))), (0, .ref oA), (1, .int (nI co))]) hx hb dX1_fallOff_74 hl (k := 3) rfl (nI_1 _) (by decide) rfl (fun ls hl => ?_)
                refine lv_goto (tgt := 2) hx hb dX1_fallOff_77 (by decide) ?_
                exact ih (r + 1) u v _ _ _ (by omega) hAl (by rw [← hL, foL, if_pos c14, if_neg c23, if_pos (by rw [pe1, ht, if_neg c45, tf, cn_nI (by omega), if_pos c65])]) (lv_sub hl [2, 3, 0] rfl) hw
              · refine lv_aload_n hx hb dX1_fallOff_68 rfl (lv_at hl 1 rfl) ?_
                refine lv_iload_n hx hb dX1_fallOff_69 rfl (lv_at hl 2 rfl) ?_
                refine lv_iconst (v := 0) hx hb dX1_fallOff_70 (by decide) ?_
                refine r1_callv (rest := []) 2 X hA hw (k1_back l v co d 0 hco hd ed hgt) (lw_V q259 q261 qs18 q23 q262) (by decide +kernel) rfl (by rw [hR]; exact ⟨Nat.le_of_ble_eq_true rfl, Nat.le_of_ble_eq_true rfl⟩) hl.1 rfl (Nat.le_of_ble_eq_true rfl) dX1_fallOff_71 ⟨Nat.zero_le _, Nat.zero_le _⟩ (fun uq H locs hu hw _ _ => ?_)
                rw [hu] at hw
                refine lv_iinc (v := nI (r + 1)) (lv' := [(2, .int (nI (r + 1))), (3, .int (nI (co * 4 + d))), (0, .ref oA), (1, .int (nI co))]) hx hb dX1_fallOff_74 hl (k := 3) rfl (nI_1 _) (by decide) rfl (fun ls hl => ?_)
                refine lv_goto (tgt := 2) hx hb dX1_fallOff_77 (by decide) ?_
                exact ih (r + 1) _ _ _ _ _ (by omega) (hr.back 0) (by rw [← hL, foL, if_pos c14, if_neg c23, if_neg (by rw [pe1, ht, if_neg c45, tf, cn_nI (by omega), if_neg c65]; decide), ed, cn_nI (by omega)]; rfl) (lv_sub hl [2, 3, 0] rfl) hw
  exact loop 4 0 σ τ _ _ _ rfl hAl rfl (lv_sub hl [1, 2, 0] rfl) hw

set_option maxHeartbeats 400000 in
theorem k1_resume (l : Launch) (σ τ : St) (x v : Int32) (hInv : Inv σ τ) : Ci1 l yX1_resume cX1_resume 4 .int 3 75 [.int x, .int v] τ (fun r u => r = (rs1 τ x v).1 ∧ u = (rs1 τ x v).2) := by
  refine e1_i (by decide) rfl (fun _ => Nat.le_of_ble_eq_true rfl) ?_
  intro pG eN R sT mD aR bL mT cD Q dC dI A oA qA dA hR X hA hret ls hl hw
  have hx := X.1.1
  have hb := X.1.2.1
  have hl : lv_has ls 4 [(0, .ref oA), (1, .int x), (2, .int v)] := hl
  refine lv_aload_n hx hb dX1_resume_0 rfl (lv_at hl 0 rfl) ?_
  refine lv_iload_n hx hb dX1_resume_1 rfl (lv_at hl 1 rfl) ?_
  refine r1_calli (rest := []) 1 X hA hw (k1_badCo l τ x) (lw_V q243 q245 qs15 q23 q246) (by decide +kernel) rfl (by rw [hR]; exact ⟨Nat.le_of_ble_eq_true rfl, Nat.le_of_ble_eq_true rfl⟩) hl.1 rfl (Nat.le_of_ble_eq_true rfl) dX1_resume_2 ⟨Nat.zero_le _, Nat.zero_le _⟩ (fun rq uq H locs hu hw _ _ => ?_)
  obtain ⟨er, hu⟩ := hu
  rw [hu] at hw
  rw [er]
  refine lv_if_eq (tgt := 10) hx hb dX1_resume_5 (by decide) (fun c5 => ?_) (fun c5 => ?_)
  · obtain ⟨co, hco, rfl⟩ := bd_ok c5
    refine lv_aload_n hx hb dX1_resume_10 rfl (lv_at hl 0 rfl) ?_
    refine r1_get X hw 4 (by decide) q202 rfl rfl dX1_resume_11 ?_
    refine lv_iload_n hx hb dX1_resume_14 rfl (lv_at hl 1 rfl) ?_
    refine r1_ald X hw 4 (k := 4) rfl co rfl (show co < _ by first | assumption | (simp only [fl1]; omega)) dX1_resume_15 ?_
    refine lv_iconst (v := 1) hx hb dX1_resume_16 (by decide) ?_
    refine lv_icmp_eq (tgt := 33) hx hb dX1_resume_17 (by decide) (fun c17 => ?_) (fun c17 => ?_)
    · have hst : σ 7 co = 1 ∨ σ 7 co = 2 := Or.inl ((hInv.2.2 co hco).1.trans c17)
      obtain ⟨hI1, h51, hfx, ne⟩ := anz_inv hInv
      have hst1 : anz σ 7 co = 1 ∨ anz σ 7 co = 2 := by rw [ne 7 (by decide) (by decide)]; exact hst
      obtain ⟨d, f, hd, hf, eds, eF, ed, hP⟩ := (hI1.2.2 co hco).top hst1
      obtain ⟨d2, ed2, hRun, -, -⟩ := up_sim v hI1.1 hfx (hI1.2.2 co hco) hst1
      obtain rfl : d = d2 := by rw [eds, cn_nI (by omega)] at ed2; omega
      refine lv_aload_n hx hb dX1_resume_33 rfl (lv_at hl 0 rfl) ?_
      refine r1_get X hw 4 (by decide) q202 rfl rfl dX1_resume_34 ?_
      refine lv_iload_n hx hb dX1_resume_37 rfl (lv_at hl 1 rfl) ?_
      refine r1_ald X hw 4 (k := 4) rfl co rfl (show co < _ by first | assumption | (simp only [fl1]; omega)) dX1_resume_38 ?_
      refine lv_iconst (v := 2) hx hb dX1_resume_39 (by decide) ?_
      refine lv_icmp_ne (tgt := 72) hx hb dX1_resume_40 (by decide) (fun c40 => ?_) (fun c40 => ?_)
      · have ere : re0 τ co v = τ := by rw [re0, if_neg c40]
        rw [← ere] at hw
        refine lv_aload_n hx hb dX1_resume_72 rfl (lv_at hl 0 rfl) ?_
        refine r1_get X hw 4 (by decide) q202 rfl rfl dX1_resume_73 ?_
        refine lv_iload_n hx hb dX1_resume_76 rfl (lv_at hl 1 rfl) ?_
        refine lv_iconst (v := 1) hx hb dX1_resume_77 (by decide) ?_
        refine r1_ast X hw 4 (k := 4) rfl co rfl (show co < _ by first | assumption | (simp only [fl1]; omega)) dX1_resume_78 (fun H locs hw => ?_)
        refine lv_aload_n hx hb dX1_resume_79 rfl (lv_at hl 0 rfl) ?_
        refine r1_get X hw 5 (by decide) q203 rfl rfl dX1_resume_80 ?_
        refine lv_iload_n hx hb dX1_resume_83 rfl (lv_at hl 1 rfl) ?_
        refine lv_iconst (v := 0) hx hb dX1_resume_84 (by decide) ?_
        refine r1_ast X hw 5 (k := 5) rfl co rfl (show co < _ by first | assumption | (simp only [fl1]; omega)) dX1_resume_85 (fun H locs hw => ?_)
        refine lv_aload_n hx hb dX1_resume_86 rfl (lv_at hl 0 rfl) ?_
        refine r1_get X hw 6 (by decide) q204 rfl rfl dX1_resume_87 ?_
        refine lv_iload_n hx hb dX1_resume_90 rfl (lv_at hl 1 rfl) ?_
        refine lv_iconst (v := 0) hx hb dX1_resume_91 (by decide) ?_
        refine r1_ast X hw 6 (k := 6) rfl co rfl (show co < _ by first | assumption | (simp only [fl1]; omega)) dX1_resume_92 (fun H locs hw => ?_)
        refine lv_aload_n hx hb dX1_resume_93 rfl (lv_at hl 0 rfl) ?_
        refine lv_iload_n hx hb dX1_resume_94 rfl (lv_at hl 1 rfl) ?_
        refine r1_callv (rest := []) 1 X hA hw (k1_fallOff l _ (su (su (su (re0 τ co v) 4 co 1) 5 co 0) 6 co 0) co hco (Or.inl ⟨d, hRun⟩)) (lw_V q255 q257 qs17 q23 q258) (by decide +kernel) rfl (by rw [hR]; exact ⟨Nat.le_of_ble_eq_true rfl, Nat.le_of_ble_eq_true rfl⟩) hl.1 rfl (Nat.le_of_ble_eq_true rfl) dX1_resume_95 ⟨Nat.zero_le _, Nat.zero_le _⟩ (fun uq H locs hu hw _ _ => ?_)
        rw [hu] at hw
        refine lv_iconst (v := 0) hx hb dX1_resume_98 (by decide) ?_
        refine lv_istore_n (lv' := [(3, .int 0), (0, .ref oA), (1, .int (nI co)), (2, .int v)]) hx hb dX1_resume_99 rfl hl (by decide) rfl (fun ls hl => ?_)
        have loop : ∀ (k i : Nat) (u z : St) (H : Heap) (locs : List Loc) (ls : Array Slot), i + k = 80 → Endd u z co → reL co k z = reL co 80 (foL co 4 (su (su (su (re0 τ co v) 4 co 1) 5 co 0) 6 co 0)) → lv_has ls 4 [(0, .ref oA), (1, .int (nI co)), (3, .int (nI i))] → wd1 dC dI A sT.heap oA qA dA z H locs → W pG l eN R sT mD aR bL mT cD H locs 0 0 Q (F0 mD 100 ls []) := by
          intro k
          induction k with
          | zero =>
            intro i u z H locs ls hk hE hL hl hw
            refine lv_iload_n hx hb dX1_resume_100 rfl (lv_at hl 2 rfl) ?_
            refine lv_bipush (v := nI 80) hx hb dX1_resume_101 (by decide) ?_
            refine lv_icmp_ge (tgt := 146) hx hb dX1_resume_103 (by decide) (fun c103 => ?_) (fun c103 => ?_)
            · refine lv_aload_n hx hb dX1_resume_146 rfl (lv_at hl 0 rfl) ?_
              refine r1_get X hw 4 (by decide) q202 rfl rfl dX1_resume_147 ?_
              refine lv_iload_n hx hb dX1_resume_150 rfl (lv_at hl 1 rfl) ?_
              refine r1_ald X hw 4 (k := 4) rfl co rfl (show co < _ by first | assumption | (simp only [fl1]; omega)) dX1_resume_151 ?_
              refine lv_iconst (v := 1) hx hb dX1_resume_152 (by decide) ?_
              refine lv_icmp_ne (tgt := 163) hx hb dX1_resume_153 (by decide) (fun c153 => ?_) (fun c153 => ?_)
              · have e3 : re τ co v = z := by rw [re, ← hL, reL, reE, if_neg c153]
                rw [← e3] at hw
                refine lv_aload_n hx hb dX1_resume_163 rfl (lv_at hl 0 rfl) ?_
                refine r1_get X hw 4 (by decide) q202 rfl rfl dX1_resume_164 ?_
                refine lv_iload_n hx hb dX1_resume_167 rfl (lv_at hl 1 rfl) ?_
                refine r1_ald X hw 4 (k := 4) rfl co rfl (show co < _ by first | assumption | (simp only [fl1]; omega)) dX1_resume_168 ?_
                exact hret _ _ _ _ _ _ dX1_resume_169 rfl ⟨by rw [rs1, if_pos c5, cn_nI (by omega), if_pos (Or.inl c17)], by rw [rs1, if_pos c5, cn_nI (by omega), if_pos (Or.inl c17)]⟩ hw
              · refine lv_aload_n hx hb dX1_resume_156 rfl (lv_at hl 0 rfl) ?_
                refine lv_iload_n hx hb dX1_resume_157 rfl (lv_at hl 1 rfl) ?_
                refine lv_iconst (v := 4) hx hb dX1_resume_158 (by decide) ?_
                refine lv_iconst (v := 0) hx hb dX1_resume_159 (by decide) ?_
                refine r1_callv (rest := []) 3 X hA hw (k1_end l z co 4 0 hco) (lw_V q263 q265 qs19 q23 q266) (by decide +kernel) rfl (by rw [hR]; exact ⟨Nat.le_of_ble_eq_true rfl, Nat.le_of_ble_eq_true rfl⟩) hl.1 rfl (Nat.le_of_ble_eq_true rfl) dX1_resume_160 ⟨Nat.zero_le _, Nat.zero_le _⟩ (fun uq H locs hu hw _ _ => ?_)
                rw [hu] at hw
                have e3 : re τ co v = en z co 4 0 := by rw [re, ← hL, reL, reE, if_pos c153]
                rw [← e3] at hw
                refine lv_aload_n hx hb dX1_resume_163 rfl (lv_at hl 0 rfl) ?_
                refine r1_get X hw 4 (by decide) q202 rfl rfl dX1_resume_164 ?_
                refine lv_iload_n hx hb dX1_resume_167 rfl (lv_at hl 1 rfl) ?_
                refine r1_ald X hw 4 (k := 4) rfl co rfl (show co < _ by first | assumption | (simp only [fl1]; omega)) dX1_resume_168 ?_
                exact hret _ _ _ _ _ _ dX1_resume_169 rfl ⟨by rw [rs1, if_pos c5, cn_nI (by omega), if_pos (Or.inl c17)], by rw [rs1, if_pos c5, cn_nI (by omega), if_pos (Or.inl c17)]⟩ hw
            · exact absurd (nI_le (by omega) (by omega)) c103
          | succ k ih =>
            intro i u z H locs ls hk hE hL hl hw
            refine lv_iload_n hx hb dX1_resume_100 rfl (lv_at hl 2 rfl) ?_
            refine lv_bipush (v := nI 80) hx hb dX1_resume_101 (by decide) ?_
            refine lv_icmp_ge (tgt := 146) hx hb dX1_resume_103 (by decide) (fun c103 => ?_) (fun c103 => ?_)
            · exact absurd c103 (nI_ge (by omega) (by decide))
            · refine lv_aload_n hx hb dX1_resume_106 rfl (lv_at hl 0 rfl) ?_
              refine r1_get X hw 4 (by decide) q202 rfl rfl dX1_resume_107 ?_
              refine lv_iload_n hx hb dX1_resume_110 rfl (lv_at hl 1 rfl) ?_
              refine r1_ald X hw 4 (k := 4) rfl co rfl (show co < _ by first | assumption | (simp only [fl1]; omega)) dX1_resume_111 ?_
              refine lv_iconst (v := 1) hx hb dX1_resume_112 (by decide) ?_
              refine lv_icmp_ne (tgt := 140) hx hb dX1_resume_113 (by decide) (fun c113 => ?_) (fun c113 => ?_)
              · refine lv_iinc (v := nI (i + 1)) (lv' := [(3, .int (nI (i + 1))), (0, .ref oA), (1, .int (nI co))]) hx hb dX1_resume_140 hl (k := 2) rfl (nI_1 _) (by decide) rfl (fun ls hl => ?_)
                refine lv_goto (tgt := 100) hx hb dX1_resume_143 (by decide) ?_
                exact ih (i + 1) u z _ _ _ (by omega) hE (by rw [← hL, reL, if_neg c113]) (lv_sub hl [1, 2, 0] rfl) hw
              · obtain ⟨d, hr, hpe⟩ := hE.run1 c113
                obtain ⟨hd, -, -, -, -, ed, hgt, -⟩ := hr.un
                obtain ⟨f, p, hf, hp, -, ef, ep, tf, tp, -⟩ := hr.pl hpe
                have es := (hr.stp_eq hf hp ef ep tf tp).2
                obtain ⟨n1, -, n3⟩ := hr.next hpe
                refine lv_aload_n hx hb dX1_resume_116 rfl (lv_at hl 0 rfl) ?_
                refine lv_iload_n hx hb dX1_resume_117 rfl (lv_at hl 1 rfl) ?_
                refine r1_callv (rest := []) 1 X hA hw (k1_carryOut l z co d f p hco hd ed hf hp tf tp hgt) (lw_V q267 q269 qs20 q23 q270) (by decide +kernel) rfl (by rw [hR]; exact ⟨Nat.le_of_ble_eq_true rfl, Nat.le_of_ble_eq_true rfl⟩) hl.1 rfl (Nat.le_of_ble_eq_true rfl) dX1_resume_118 ⟨Nat.zero_le _, Nat.zero_le _⟩ (fun uq H locs hu hw _ _ => ?_)
                rw [hu] at hw
                rw [← es] at hw
                refine lv_aload_n hx hb dX1_resume_121 rfl (lv_at hl 0 rfl) ?_
                refine lv_iload_n hx hb dX1_resume_122 rfl (lv_at hl 1 rfl) ?_
                refine r1_callv (rest := []) 1 X hA hw (k1_fallOff l (stp u co) (ct1 z co) co hco n1) (lw_V q255 q257 qs17 q23 q258) (by decide +kernel) rfl (by rw [hR]; exact ⟨Nat.le_of_ble_eq_true rfl, Nat.le_of_ble_eq_true rfl⟩) hl.1 rfl (Nat.le_of_ble_eq_true rfl) dX1_resume_123 ⟨Nat.zero_le _, Nat.zero_le _⟩ (fun uq H locs hu hw _ _ => ?_)
                rw [hu] at hw
                refine lv_aload_n hx hb dX1_resume_126 rfl (lv_at hl 0 rfl) ?_
                refine r1_get X hw 6 (by decide) q204 rfl rfl dX1_resume_127 ?_
                refine lv_iload_n hx hb dX1_resume_130 rfl (lv_at hl 1 rfl) ?_
                refine lv_aload_n hx hb dX1_resume_131 rfl (lv_at hl 0 rfl) ?_
                refine r1_get X hw 6 (by decide) q204 rfl rfl dX1_resume_132 ?_
                refine lv_iload_n hx hb dX1_resume_135 rfl (lv_at hl 1 rfl) ?_
                refine r1_ald X hw 6 (k := 6) rfl co rfl (show co < _ by first | assumption | (simp only [fl1]; omega)) dX1_resume_136 ?_
                refine lv_iconst (v := 1) hx hb dX1_resume_137 (by decide) ?_
                refine lv_iadd hx hb dX1_resume_138 ?_
                refine r1_ast X hw 6 (k := 6) rfl co rfl (show co < _ by first | assumption | (simp only [fl1]; omega)) dX1_resume_139 (fun H locs hw => ?_)
                refine lv_iinc (v := nI (i + 1)) (lv' := [(3, .int (nI (i + 1))), (0, .ref oA), (1, .int (nI co))]) hx hb dX1_resume_140 hl (k := 2) rfl (nI_1 _) (by decide) rfl (fun ls hl => ?_)
                refine lv_goto (tgt := 100) hx hb dX1_resume_143 (by decide) ?_
                exact ih (i + 1) _ _ _ _ _ (by omega) n3 (by rw [← hL, reL, if_pos c113]) (lv_sub hl [1, 2, 0] rfl) hw
        exact loop 80 0 _ _ _ _ _ rfl (ra_sim 4 hRun hRun.1.2.2.1).1 rfl (lv_sub hl [1, 2, 0] rfl) hw
      · exact absurd (c17.symm.trans c40) (by decide)
    · refine lv_aload_n hx hb dX1_resume_20 rfl (lv_at hl 0 rfl) ?_
      refine r1_get X hw 4 (by decide) q202 rfl rfl dX1_resume_21 ?_
      refine lv_iload_n hx hb dX1_resume_24 rfl (lv_at hl 1 rfl) ?_
      refine r1_ald X hw 4 (k := 4) rfl co rfl (show co < _ by first | assumption | (simp only [fl1]; omega)) dX1_resume_25 ?_
      refine lv_iconst (v := 2) hx hb dX1_resume_26 (by decide) ?_
      refine lv_icmp_eq (tgt := 33) hx hb dX1_resume_27 (by decide) (fun c27 => ?_) (fun c27 => ?_)
      · have hst : σ 7 co = 1 ∨ σ 7 co = 2 := Or.inr ((hInv.2.2 co hco).1.trans c27)
        obtain ⟨hI1, h51, hfx, ne⟩ := anz_inv hInv
        have hst1 : anz σ 7 co = 1 ∨ anz σ 7 co = 2 := by rw [ne 7 (by decide) (by decide)]; exact hst
        obtain ⟨d, f, hd, hf, eds, eF, ed, hP⟩ := (hI1.2.2 co hco).top hst1
        obtain ⟨d2, ed2, hRun, -, -⟩ := up_sim v hI1.1 hfx (hI1.2.2 co hco) hst1
        obtain rfl : d = d2 := by rw [eds, cn_nI (by omega)] at ed2; omega
        refine lv_aload_n hx hb dX1_resume_33 rfl (lv_at hl 0 rfl) ?_
        refine r1_get X hw 4 (by decide) q202 rfl rfl dX1_resume_34 ?_
        refine lv_iload_n hx hb dX1_resume_37 rfl (lv_at hl 1 rfl) ?_
        refine r1_ald X hw 4 (k := 4) rfl co rfl (show co < _ by first | assumption | (simp only [fl1]; omega)) dX1_resume_38 ?_
        refine lv_iconst (v := 2) hx hb dX1_resume_39 (by decide) ?_
        refine lv_icmp_ne (tgt := 72) hx hb dX1_resume_40 (by decide) (fun c40 => ?_) (fun c40 => ?_)
        · exact absurd c27 c40
        · obtain ⟨p, hp, eP, eg⟩ := (hP.resolve_left (fun h => absurd (h.1.symm.trans ((hI1.2.2 co hco).1.trans c40)) (by decide))).2
          obtain ⟨-, ⟨r, hr4, er⟩⟩ := hI1.1.rg (f * 8 + p)
          have eg2 : τ 10 (co * 4 + d) = nI r := eg.trans er
          have ere : re0 τ co v = su τ 11 ((co * 4 + d) * 4 + r) v := by rw [re0, if_pos c40, tg, ed, cn_nI (by omega), show co * 4 + (d + 1 - 1) = co * 4 + d from rfl, eg2, cn_nI (by omega)]
          refine lv_iload_n hx hb dX1_resume_43 rfl (lv_at hl 1 rfl) ?_
          refine lv_iconst (v := nI 4) hx hb dX1_resume_44 (by decide) ?_
          refine lv_imul hx hb dX1_resume_45 ?_
          refine x_top (y := nI (co * 4)) (pk_mul _ _) ?_
          refine lv_aload_n hx hb dX1_resume_46 rfl (lv_at hl 0 rfl) ?_
          refine r1_get X hw 7 (by decide) q205 rfl rfl dX1_resume_47 ?_
          refine lv_iload_n hx hb dX1_resume_50 rfl (lv_at hl 1 rfl) ?_
          refine r1_ald X hw 7 (k := 7) rfl co rfl (show co < _ by first | assumption | (simp only [fl1]; omega)) dX1_resume_51 ?_
          refine x_top (y := nI (d + 1)) ed ?_
          refine lv_iadd hx hb dX1_resume_52 ?_
          refine x_top (y := nI (co * 4 + (d + 1))) (nI_add _ _) ?_
          refine lv_iconst (v := 1) hx hb dX1_resume_53 (by decide) ?_
          refine lv_isub hx hb dX1_resume_54 ?_
          refine x_top (y := nI (co * 4 + d)) (nI_pred (co * 4 + d)) ?_
          refine lv_istore_n (lv' := [(3, .int (nI (co * 4 + d))), (0, .ref oA), (1, .int (nI co)), (2, .int v)]) hx hb dX1_resume_55 rfl hl (by decide) rfl (fun ls hl => ?_)
          refine lv_aload_n hx hb dX1_resume_56 rfl (lv_at hl 1 rfl) ?_
          refine r1_get X hw 11 (by decide) q209 rfl rfl dX1_resume_57 ?_
          refine lv_iload_n hx hb dX1_resume_60 rfl (lv_at hl 0 rfl) ?_
          refine lv_iconst (v := nI 4) hx hb dX1_resume_61 (by decide) ?_
          refine lv_imul hx hb dX1_resume_62 ?_
          refine x_top (y := nI ((co * 4 + d) * 4)) (pk_mul _ _) ?_
          refine lv_aload_n hx hb dX1_resume_63 rfl (lv_at hl 1 rfl) ?_
          refine r1_get X hw 10 (by decide) q208 rfl rfl dX1_resume_64 ?_
          refine lv_iload_n hx hb dX1_resume_67 rfl (lv_at hl 0 rfl) ?_
          refine r1_ald X hw 10 (k := 10) rfl (co * 4 + d) rfl (show (co * 4 + d) < _ by first | assumption | (simp only [fl1]; omega)) dX1_resume_68 ?_
          refine x_top (y := nI r) eg2 ?_
          refine lv_iadd hx hb dX1_resume_69 ?_
          refine x_top (y := nI ((co * 4 + d) * 4 + r)) (nI_add _ _) ?_
          refine lv_iload_n hx hb dX1_resume_70 rfl (lv_at hl 3 rfl) ?_
          refine r1_ast X hw 11 (k := 11) rfl ((co * 4 + d) * 4 + r) rfl (show ((co * 4 + d) * 4 + r) < _ by first | assumption | (simp only [fl1]; omega)) dX1_resume_71 (fun H locs hw => ?_)
          rw [← ere] at hw
          refine lv_aload_n hx hb dX1_resume_72 rfl (lv_at hl 1 rfl) ?_
          refine r1_get X hw 4 (by decide) q202 rfl rfl dX1_resume_73 ?_
          refine lv_iload_n hx hb dX1_resume_76 rfl (lv_at hl 2 rfl) ?_
          refine lv_iconst (v := 1) hx hb dX1_resume_77 (by decide) ?_
          refine r1_ast X hw 4 (k := 4) rfl co rfl (show co < _ by first | assumption | (simp only [fl1]; omega)) dX1_resume_78 (fun H locs hw => ?_)
          refine lv_aload_n hx hb dX1_resume_79 rfl (lv_at hl 1 rfl) ?_
          refine r1_get X hw 5 (by decide) q203 rfl rfl dX1_resume_80 ?_
          refine lv_iload_n hx hb dX1_resume_83 rfl (lv_at hl 2 rfl) ?_
          refine lv_iconst (v := 0) hx hb dX1_resume_84 (by decide) ?_
          refine r1_ast X hw 5 (k := 5) rfl co rfl (show co < _ by first | assumption | (simp only [fl1]; omega)) dX1_resume_85 (fun H locs hw => ?_)
          refine lv_aload_n hx hb dX1_resume_86 rfl (lv_at hl 1 rfl) ?_
          refine r1_get X hw 6 (by decide) q204 rfl rfl dX1_resume_87 ?_
          refine lv_iload_n hx hb dX1_resume_90 rfl (lv_at hl 2 rfl) ?_
          refine lv_iconst (v := 0) hx hb dX1_resume_91 (by decide) ?_
          refine r1_ast X hw 6 (k := 6) rfl co rfl (show co < _ by first | assumption | (simp only [fl1]; omega)) dX1_resume_92 (fun H locs hw => ?_)
          refine lv_aload_n hx hb dX1_resume_93 rfl (lv_at hl 1 rfl) ?_
          refine lv_iload_n hx hb dX1_resume_94 rfl (lv_at hl 2 rfl) ?_
          refine r1_callv (rest := []) 1 X hA hw (k1_fallOff l _ (su (su (su (re0 τ co v) 4 co 1) 5 co 0) 6 co 0) co hco (Or.inl ⟨d, hRun⟩)) (lw_V q255 q257 qs17 q23 q258) (by decide +kernel) rfl (by rw [hR]; exact ⟨Nat.le_of_ble_eq_true rfl, Nat.le_of_ble_eq_true rfl⟩) hl.1 rfl (Nat.le_of_ble_eq_true rfl) dX1_resume_95 ⟨Nat.zero_le _, Nat.zero_le _⟩ (fun uq H locs hu hw _ _ => ?_)
          rw [hu] at hw
          refine lv_iconst (v := 0) hx hb dX1_resume_98 (by decide) ?_
          refine lv_istore_n (lv' := [(3, .int 0), (0, .ref oA), (1, .int (nI co)), (2, .int v)]) hx hb dX1_resume_99 rfl hl (by decide) rfl (fun ls hl => ?_)
          have loop : ∀ (k i : Nat) (u z : St) (H : Heap) (locs : List Loc) (ls : Array Slot), i + k = 80 → Endd u z co → reL co k z = reL co 80 (foL co 4 (su (su (su (re0 τ co v) 4 co 1) 5 co 0) 6 co 0)) → lv_has ls 4 [(0, .ref oA), (1, .int (nI co)), (3, .int (nI i))] → wd1 dC dI A sT.heap oA qA dA z H locs → W pG l eN R sT mD aR bL mT cD H locs 0 0 Q (F0 mD 100 ls []) := by
            intro k
            induction k with
            | zero =>
              intro i u z H locs ls hk hE hL hl hw
              refine lv_iload_n hx hb dX1_resume_100 rfl (lv_at hl 2 rfl) ?_
              refine lv_bipush (v := nI 80) hx hb dX1_resume_101 (by decide) ?_
              refine lv_icmp_ge (tgt := 146) hx hb dX1_resume_103 (by decide) (fun c103 => ?_) (fun c103 => ?_)
              · refine lv_aload_n hx hb dX1_resume_146 rfl (lv_at hl 0 rfl) ?_
                refine r1_get X hw 4 (by decide) q202 rfl rfl dX1_resume_147 ?_
                refine lv_iload_n hx hb dX1_resume_150 rfl (lv_at hl 1 rfl) ?_
                refine r1_ald X hw 4 (k := 4) rfl co rfl (show co < _ by first | assumption | (simp only [fl1]; omega)) dX1_resume_151 ?_
                refine lv_iconst (v := 1) hx hb dX1_resume_152 (by decide) ?_
                refine lv_icmp_ne (tgt := 163) hx hb dX1_resume_153 (by decide) (fun c153 => ?_) (fun c153 => ?_)
                · have e3 : re τ co v = z := by rw [re, ← hL, reL, reE, if_neg c153]
                  rw [← e3] at hw
                  refine lv_aload_n hx hb dX1_resume_163 rfl (lv_at hl 0 rfl) ?_
                  refine r1_get X hw 4 (by decide) q202 rfl rfl dX1_resume_164 ?_
                  refine lv_iload_n hx hb dX1_resume_167 rfl (lv_at hl 1 rfl) ?_
                  refine r1_ald X hw 4 (k := 4) rfl co rfl (show co < _ by first | assumption | (simp only [fl1]; omega)) dX1_resume_168 ?_
                  exact hret _ _ _ _ _ _ dX1_resume_169 rfl ⟨by rw [rs1, if_pos c5, cn_nI (by omega), if_pos (Or.inr c27)], by rw [rs1, if_pos c5, cn_nI (by omega), if_pos (Or.inr c27)]⟩ hw
                · refine lv_aload_n hx hb dX1_resume_156 rfl (lv_at hl 0 rfl) ?_
                  refine lv_iload_n hx hb dX1_resume_157 rfl (lv_at hl 1 rfl) ?_
                  refine lv_iconst (v := 4) hx hb dX1_resume_158 (by decide) ?_
                  refine lv_iconst (v := 0) hx hb dX1_resume_159 (by decide) ?_
                  refine r1_callv (rest := []) 3 X hA hw (k1_end l z co 4 0 hco) (lw_V q263 q265 qs19 q23 q266) (by decide +kernel) rfl (by rw [hR]; exact ⟨Nat.le_of_ble_eq_true rfl, Nat.le_of_ble_eq_true rfl⟩) hl.1 rfl (Nat.le_of_ble_eq_true rfl) dX1_resume_160 ⟨Nat.zero_le _, Nat.zero_le _⟩ (fun uq H locs hu hw _ _ => ?_)
                  rw [hu] at hw
                  have e3 : re τ co v = en z co 4 0 := by rw [re, ← hL, reL, reE, if_pos c153]
                  rw [← e3] at hw
                  refine lv_aload_n hx hb dX1_resume_163 rfl (lv_at hl 0 rfl) ?_
                  refine r1_get X hw 4 (by decide) q202 rfl rfl dX1_resume_164 ?_
                  refine lv_iload_n hx hb dX1_resume_167 rfl (lv_at hl 1 rfl) ?_
                  refine r1_ald X hw 4 (k := 4) rfl co rfl (show co < _ by first | assumption | (simp only [fl1]; omega)) dX1_resume_168 ?_
                  exact hret _ _ _ _ _ _ dX1_resume_169 rfl ⟨by rw [rs1, if_pos c5, cn_nI (by omega), if_pos (Or.inr c27)], by rw [rs1, if_pos c5, cn_nI (by omega), if_pos (Or.inr c27)]⟩ hw
              · exact absurd (nI_le (by omega) (by omega)) c103
            | succ k ih =>
              intro i u z H locs ls hk hE hL hl hw
              refine lv_iload_n hx hb dX1_resume_100 rfl (lv_at hl 2 rfl) ?_
              refine lv_bipush (v := nI 80) hx hb dX1_resume_101 (by decide) ?_
              refine lv_icmp_ge (tgt := 146) hx hb dX1_resume_103 (by decide) (fun c103 => ?_) (fun c103 => ?_)
              · exact absurd c103 (nI_ge (by omega) (by decide))
              · refine lv_aload_n hx hb dX1_resume_106 rfl (lv_at hl 0 rfl) ?_
                refine r1_get X hw 4 (by decide) q202 rfl rfl dX1_resume_107 ?_
                refine lv_iload_n hx hb dX1_resume_110 rfl (lv_at hl 1 rfl) ?_
                refine r1_ald X hw 4 (k := 4) rfl co rfl (show co < _ by first | assumption | (simp only [fl1]; omega)) dX1_resume_111 ?_
                refine lv_iconst (v := 1) hx hb dX1_resume_112 (by decide) ?_
                refine lv_icmp_ne (tgt := 140) hx hb dX1_resume_113 (by decide) (fun c113 => ?_) (fun c113 => ?_)
                · refine lv_iinc (v := nI (i + 1)) (lv' := [(3, .int (nI (i + 1))), (0, .ref oA), (1, .int (nI co))]) hx hb dX1_resume_140 hl (k := 2) rfl (nI_1 _) (by decide) rfl (fun ls hl => ?_)
                  refine lv_goto (tgt := 100) hx hb dX1_resume_143 (by decide) ?_
                  exact ih (i + 1) u z _ _ _ (by omega) hE (by rw [← hL, reL, if_neg c113]) (lv_sub hl [1, 2, 0] rfl) hw
                · obtain ⟨d, hr, hpe⟩ := hE.run1 c113
                  obtain ⟨hd, -, -, -, -, ed, hgt, -⟩ := hr.un
                  obtain ⟨f, p, hf, hp, -, ef, ep, tf, tp, -⟩ := hr.pl hpe
                  have es := (hr.stp_eq hf hp ef ep tf tp).2
                  obtain ⟨n1, -, n3⟩ := hr.next hpe
                  refine lv_aload_n hx hb dX1_resume_116 rfl (lv_at hl 0 rfl) ?_
                  refine lv_iload_n hx hb dX1_resume_117 rfl (lv_at hl 1 rfl) ?_
                  refine r1_callv (rest := []) 1 X hA hw (k1_carryOut l z co d f p hco hd ed hf hp tf tp hgt) (lw_V q267 q269 qs20 q23 q270) (by decide +kernel) rfl (by rw [hR]; exact ⟨Nat.le_of_ble_eq_true rfl, Nat.le_of_ble_eq_true rfl⟩) hl.1 rfl (Nat.le_of_ble_eq_true rfl) dX1_resume_118 ⟨Nat.zero_le _, Nat.zero_le _⟩ (fun uq H locs hu hw _ _ => ?_)
                  rw [hu] at hw
                  rw [← es] at hw
                  refine lv_aload_n hx hb dX1_resume_121 rfl (lv_at hl 0 rfl) ?_
                  refine lv_iload_n hx hb dX1_resume_122 rfl (lv_at hl 1 rfl) ?_
                  refine r1_callv (rest := []) 1 X hA hw (k1_fallOff l (stp u co) (ct1 z co) co hco n1) (lw_V q255 q257 qs17 q23 q258) (by decide +kernel) rfl (by rw [hR]; exact ⟨Nat.le_of_ble_eq_true rfl, Nat.le_of_ble_eq_true rfl⟩) hl.1 rfl (Nat.le_of_ble_eq_true rfl) dX1_resume_123 ⟨Nat.zero_le _, Nat.zero_le _⟩ (fun uq H locs hu hw _ _ => ?_)
                  rw [hu] at hw
                  refine lv_aload_n hx hb dX1_resume_126 rfl (lv_at hl 0 rfl) ?_
                  refine r1_get X hw 6 (by decide) q204 rfl rfl dX1_resume_127 ?_
                  refine lv_iload_n hx hb dX1_resume_130 rfl (lv_at hl 1 rfl) ?_
                  refine lv_aload_n hx hb dX1_resume_131 rfl (lv_at hl 0 rfl) ?_
                  refine r1_get X hw 6 (by decide) q204 rfl rfl dX1_resume_132 ?_
                  refine lv_iload_n hx hb dX1_resume_135 rfl (lv_at hl 1 rfl) ?_
                  refine r1_ald X hw 6 (k := 6) rfl co rfl (show co < _ by first | assumption | (simp only [fl1]; omega)) dX1_resume_136 ?_
                  refine lv_iconst (v := 1) hx hb dX1_resume_137 (by decide) ?_
                  refine lv_iadd hx hb dX1_resume_138 ?_
                  refine r1_ast X hw 6 (k := 6) rfl co rfl (show co < _ by first | assumption | (simp only [fl1]; omega)) dX1_resume_139 (fun H locs hw => ?_)
                  refine lv_iinc (v := nI (i + 1)) (lv' := [(3, .int (nI (i + 1))), (0, .ref oA), (1, .int (nI co))]) hx hb dX1_resume_140 hl (k := 2) rfl (nI_1 _) (by decide) rfl (fun ls hl => ?_)
                  refine lv_goto (tgt := 100) hx hb dX1_resume_143 (by decide) ?_
                  exact ih (i + 1) _ _ _ _ _ (by omega) n3 (by rw [← hL, reL, if_pos c113]) (lv_sub hl [1, 2, 0] rfl) hw
          exact loop 80 0 _ _ _ _ _ rfl (ra_sim 4 hRun hRun.1.2.2.1).1 rfl (lv_sub hl [1, 2, 0] rfl) hw
      · refine lv_bipush (v := (-4)) hx hb dX1_resume_30 (by decide) ?_
        exact hret _ _ _ _ _ _ dX1_resume_32 rfl ⟨by rw [rs1, if_pos c5, cn_nI (by omega), if_neg (fun h => h.elim c17 c27)], by rw [rs1, if_pos c5, cn_nI (by omega), if_neg (fun h => h.elim c17 c27)]⟩ hw
  · refine lv_iconst (v := (-1)) hx hb dX1_resume_8 (by decide) ?_
    exact hret _ _ _ _ _ _ dX1_resume_9 rfl ⟨by rw [rs1, if_neg c5], by rw [rs1, if_neg c5]⟩ hw

set_option maxHeartbeats 400000 in
theorem k1_echo (l : Launch) (σ τ : St) (x n : Int32) (hInv : Inv σ τ) : Ci1 l yX1_echo cX1_echo 5 .int 4 98 [.int x, .int n] τ (fun r u => r = (ec1 τ x n).1 ∧ u = (ec1 τ x n).2) := by
  refine e1_i (by decide) rfl (fun _ => Nat.le_of_ble_eq_true rfl) ?_
  intro pG eN R sT mD aR bL mT cD Q dC dI A oA qA dA hR X hA hret ls hl hw
  have hx := X.1.1
  have hb := X.1.2.1
  have hl : lv_has ls 5 [(0, .ref oA), (1, .int x), (2, .int n)] := hl
  refine lv_aload_n hx hb dX1_echo_0 rfl (lv_at hl 0 rfl) ?_
  refine lv_iload_n hx hb dX1_echo_1 rfl (lv_at hl 1 rfl) ?_
  refine r1_calli (rest := []) 1 X hA hw (k1_badCo l τ x) (lw_V q243 q245 qs15 q23 q246) (by decide +kernel) rfl (by rw [hR]; exact ⟨Nat.le_of_ble_eq_true rfl, Nat.le_of_ble_eq_true rfl⟩) hl.1 rfl (Nat.le_of_ble_eq_true rfl) dX1_echo_2 ⟨Nat.zero_le _, Nat.zero_le _⟩ (fun rq uq H locs hu hw _ _ => ?_)
  obtain ⟨er, hu⟩ := hu
  rw [hu] at hw
  rw [er]
  refine lv_if_eq (tgt := 10) hx hb dX1_echo_5 (by decide) (fun c5 => ?_) (fun c5 => ?_)
  · obtain ⟨co, hco, rfl⟩ := bd_ok c5
    refine lv_aload_n hx hb dX1_echo_10 rfl (lv_at hl 0 rfl) ?_
    refine r1_get X hw 4 (by decide) q202 rfl rfl dX1_echo_11 ?_
    refine lv_iload_n hx hb dX1_echo_14 rfl (lv_at hl 1 rfl) ?_
    refine r1_ald X hw 4 (k := 4) rfl co rfl (show co < _ by first | assumption | (simp only [fl1]; omega)) dX1_echo_15 ?_
    refine lv_iconst (v := 2) hx hb dX1_echo_16 (by decide) ?_
    refine lv_icmp_eq (tgt := 23) hx hb dX1_echo_17 (by decide) (fun c17 => ?_) (fun c17 => ?_)
    · refine lv_iconst (v := 0) hx hb dX1_echo_23 (by decide) ?_
      refine lv_istore_n (lv' := [(3, .int 0), (0, .ref oA), (1, .int (nI co)), (2, .int n)]) hx hb dX1_echo_24 rfl hl (by decide) rfl (fun ls hl => ?_)
      refine lv_iconst (v := nI 0) hx hb dX1_echo_25 (by decide) ?_
      refine lv_istore (lv' := [(4, .int (nI 0)), (3, .int 0), (0, .ref oA), (1, .int (nI co)), (2, .int n)]) hx hb dX1_echo_26 hl (by decide) rfl (fun ls hl => ?_)
      have loop : ∀ (k i : Nat) (u v : St) (z : Int32) (H : Heap) (locs : List Loc) (ls : Array Slot), k + i = 20 → Inv u v → eL1 co n k i v z = eL1 co n 20 0 τ 0 → lv_has ls 5 [(0, .ref oA), (1, .int (nI co)), (2, .int n), (3, .int z), (4, .int (nI i))] → wd1 dC dI A sT.heap oA qA dA v H locs → W pG l eN R sT mD aR bL mT cD H locs 0 0 Q (F0 mD 28 ls []) := by
        intro k
        induction k with
        | zero =>
          intro i u v z H locs ls hk hI hL hl hw
          refine lv_iload hx hb dX1_echo_28 (lv_at hl 4 rfl) ?_
          refine lv_bipush (v := nI 20) hx hb dX1_echo_30 (by decide) ?_
          refine lv_icmp_ge (tgt := 78) hx hb dX1_echo_32 (by decide) (fun c32 => ?_) (fun c32 => ?_)
          · refine lv_iload_n hx hb dX1_echo_78 rfl (lv_at hl 3 rfl) ?_
            exact hret _ _ _ _ _ _ dX1_echo_79 rfl ⟨by rw [ec1, if_pos c5, cn_nI (by omega), if_pos c17, ← hL]; rfl, by rw [ec1, if_pos c5, cn_nI (by omega), if_pos c17, ← hL]; rfl⟩ hw
          · exact absurd (nI_le (by omega) (by omega)) c32
        | succ k ih =>
          intro i u v z H locs ls hk hI hL hl hw
          refine lv_iload hx hb dX1_echo_28 (lv_at hl 4 rfl) ?_
          refine lv_bipush (v := nI 20) hx hb dX1_echo_30 (by decide) ?_
          refine lv_icmp_ge (tgt := 78) hx hb dX1_echo_32 (by decide) (fun c32 => ?_) (fun c32 => ?_)
          · exact absurd c32 (nI_ge (by omega) (by decide))
          · refine lv_iload hx hb dX1_echo_35 (lv_at hl 4 rfl) ?_
            refine lv_iload_n hx hb dX1_echo_37 rfl (lv_at hl 2 rfl) ?_
            refine lv_icmp_ge (tgt := 72) hx hb dX1_echo_38 (by decide) (fun c38 => ?_) (fun c38 => ?_)
            · refine lv_iinc (v := nI (i + 1)) (lv' := [(4, .int (nI (i + 1))), (0, .ref oA), (1, .int (nI co)), (2, .int n), (3, .int z)]) hx hb dX1_echo_72 hl (k := 4) rfl (nI_1 _) (by decide) rfl (fun ls hl => ?_)
              refine lv_goto (tgt := 28) hx hb dX1_echo_75 (by decide) ?_
              exact ih (i + 1) u v z _ _ _ (by omega) hI (by rw [← hL, eL1, if_neg (Int32.not_lt.mpr c38)]) (lv_sub hl [1, 2, 3, 4, 0] rfl) hw
            · refine lv_aload_n hx hb dX1_echo_41 rfl (lv_at hl 0 rfl) ?_
              refine r1_get X hw 4 (by decide) q202 rfl rfl dX1_echo_42 ?_
              refine lv_iload_n hx hb dX1_echo_45 rfl (lv_at hl 1 rfl) ?_
              refine r1_ald X hw 4 (k := 4) rfl co rfl (show co < _ by first | assumption | (simp only [fl1]; omega)) dX1_echo_46 ?_
              refine lv_iconst (v := 2) hx hb dX1_echo_47 (by decide) ?_
              refine lv_icmp_ne (tgt := 72) hx hb dX1_echo_48 (by decide) (fun c48 => ?_) (fun c48 => ?_)
              · refine lv_iinc (v := nI (i + 1)) (lv' := [(4, .int (nI (i + 1))), (0, .ref oA), (1, .int (nI co)), (2, .int n), (3, .int z)]) hx hb dX1_echo_72 hl (k := 4) rfl (nI_1 _) (by decide) rfl (fun ls hl => ?_)
                refine lv_goto (tgt := 28) hx hb dX1_echo_75 (by decide) ?_
                exact ih (i + 1) u v z _ _ _ (by omega) hI (by rw [← hL, eL1, if_pos (Int32.not_le.mp c38), if_neg c48]) (lv_sub hl [1, 2, 3, 4, 0] rfl) hw
              · have hs0 := (hI.2.2 co hco).1.trans c48
                have hg := go_sim (v 5 co) hI hco (Or.inr hs0)
                have ers : rs1 v (nI co) (v 5 co) = ((re v co (v 5 co)) 4 co, re v co (v 5 co)) := by rw [rs1, if_pos (bd_nI hco), cn_nI (by omega), if_pos (Or.inr c48)]
                refine lv_aload_n hx hb dX1_echo_51 rfl (lv_at hl 0 rfl) ?_
                refine lv_iload_n hx hb dX1_echo_52 rfl (lv_at hl 1 rfl) ?_
                refine lv_aload_n hx hb dX1_echo_53 rfl (lv_at hl 0 rfl) ?_
                refine r1_get X hw 5 (by decide) q203 rfl rfl dX1_echo_54 ?_
                refine lv_iload_n hx hb dX1_echo_57 rfl (lv_at hl 1 rfl) ?_
                refine r1_ald X hw 5 (k := 5) rfl co rfl (show co < _ by first | assumption | (simp only [fl1]; omega)) dX1_echo_58 ?_
                refine r1_calli (rest := []) 2 X hA hw (k1_resume l u v (nI co) (v 5 co) hI) (lw_V q275 q252 q253 q23 q254) (by decide +kernel) rfl (by rw [hR]; exact ⟨Nat.le_of_ble_eq_true rfl, Nat.le_of_ble_eq_true rfl⟩) hl.1 rfl (Nat.le_of_ble_eq_true rfl) dX1_echo_59 ⟨Nat.zero_le _, Nat.zero_le _⟩ (fun rq uq H locs hu hw _ _ => ?_)
                obtain ⟨er, hu⟩ := hu
                rw [hu] at hw
                rw [er]
                rw [ers] at hw
                have hw : wd1 dC dI A sT.heap oA qA dA (re v co (v 5 co)) H locs := hw
                refine lv_pop hx hb dX1_echo_62 rfl ?_
                refine lv_iload_n hx hb dX1_echo_63 rfl (lv_at hl 3 rfl) ?_
                refine lv_aload_n hx hb dX1_echo_64 rfl (lv_at hl 0 rfl) ?_
                refine r1_get X hw 5 (by decide) q203 rfl rfl dX1_echo_65 ?_
                refine lv_iload_n hx hb dX1_echo_68 rfl (lv_at hl 1 rfl) ?_
                refine r1_ald X hw 5 (k := 5) rfl co rfl (show co < _ by first | assumption | (simp only [fl1]; omega)) dX1_echo_69 ?_
                refine lv_iadd hx hb dX1_echo_70 ?_
                refine lv_istore_n (lv' := [(3, .int (z + ((re v co (v 5 co)) 5 co))), (0, .ref oA), (1, .int (nI co)), (2, .int n), (4, .int (nI i))]) hx hb dX1_echo_71 rfl hl (by decide) rfl (fun ls hl => ?_)
                refine lv_iinc (v := nI (i + 1)) (lv' := [(4, .int (nI (i + 1))), (3, .int (z + ((re v co (v 5 co)) 5 co))), (0, .ref oA), (1, .int (nI co)), (2, .int n)]) hx hb dX1_echo_72 hl (k := 4) rfl (nI_1 _) (by decide) rfl (fun ls hl => ?_)
                refine lv_goto (tgt := 28) hx hb dX1_echo_75 (by decide) ?_
                exact ih (i + 1) _ _ _ _ _ _ (by omega) hg (by rw [← hL, eL1, if_pos (Int32.not_le.mp c38), if_pos c48]) (lv_sub hl [2, 3, 4, 1, 0] rfl) hw
      exact loop 20 0 σ τ 0 _ _ _ rfl hInv rfl (lv_sub hl [2, 3, 4, 1, 0] rfl) hw
    · refine lv_bipush (v := (-4)) hx hb dX1_echo_20 (by decide) ?_
      exact hret _ _ _ _ _ _ dX1_echo_22 rfl ⟨by rw [ec1, if_pos c5, cn_nI (by omega), if_neg c17], by rw [ec1, if_pos c5, cn_nI (by omega), if_neg c17]⟩ hw
  · refine lv_iconst (v := (-1)) hx hb dX1_echo_8 (by decide) ?_
    exact hret _ _ _ _ _ _ dX1_echo_9 rfl ⟨by rw [ec1, if_neg c5], by rw [ec1, if_neg c5]⟩ hw
end
section
set_option maxRecDepth 100000
/-! THE CLAIM OUT OF ONE WALK OF THE LAW'S BODY. Your part is whole_start (and what it stands on); all else here is the same for every law, but numbers. -/
def R_law : String := "CoroutineFramesLaw"
def lw_P (b : Addr) (xs : List Int32) (args : Array Value) (s : State) : Prop := args = #[.ref b] ∧ s.IntsAt b xs ∧ xs.length ≤ 320 ∧ (Jvm.Cond.and given_1 narrow_1).before args s = true
def lw_Q (_ : Array Value) (s : State) (o : Outcome) (t : State) : Prop := o = .returned (some (.int 1)) ∧ Framed s o t [] 600000 7290000
def lw_Z (below : List Frame) (a : Array Value) (s : State) : State → Prop := fun t => ∃ o, t.status = .running ∧ Ended t below o ∧ lw_Q a s o t
/-- the law's own end, with 1 on the stack, nothing written that was there before, its room as the claim has it -/
theorem lw_ret {p : Program} {l : Launch} {e : Env} {s : State} {m : MethodId} {below : List Frame} {meth : Method} {c : Code} {b : Nat} (hx : p.tables.exec = Jvm.exec) (hb : c.code = code) (hr : meth.sig.returnType = ret) (hlocks : meth.locks = false) {pc : Nat} {H : Heap} {ls : Array Slot} (hdg : decode code pc = .ok (.ireturn, 1)) : W p l e room_1 s m #[Value.ref b] below meth c H [] 600000 7290000 (lw_Z below #[Value.ref b] s) (F0 m pc ls [.int 1]) := by
  intro T hT X
  obtain ⟨fs, hret, hrun, hended, hW, hframe⟩ := X.leave (v := some (.int 1)) (hlocks := hlocks) (fun h => by rw [hr] at h; cases h)
  have hmeth' : T.vm.method? m = some meth := X.method'
  refine ⟨T.setFrames fs, ?_, .returned (some (.int 1)), hrun, hended, rfl, ⟨_, rfl⟩, hW, hframe⟩
  jvm_step X.here [X.here.top, hx, hb, hdg, hmeth', hr, ret, narrow_b1]
  (try refine ⟨rfl, ?_⟩); (try refine ⟨rfl, ?_⟩)
  first | (intro acts; rw [hret _ acts rfl rfl rfl]) | rw [hret _ _ rfl rfl rfl]
  exact Steps.refl _
/-- what holds at the law's entry: the machine, the code, the tables' words (any of lw_tbl by 'hts w (by decide +kernel)'), the script of L ints xs at the cell b, what the Statement gives of the start (any of its parts by flat_of_before) -/
def lw_At (p : Program) (s : State) (m : MethodId) (meth : Method) (c : Code) (b L : Nat) (xs : Nat → Int32) : Prop :=
  p.tables.exec = Jvm.exec ∧ c.code = code ∧ meth.sig.returnType = ret ∧ c.maxLocals = 4 ∧ s.vm.findClass R_law = some m.cls ∧ (∀ w ∈ lw_tbl, w.before #[Value.ref b] s = true) ∧ va_X b L xs s s.heap ∧ b < s.heap.size ∧ meth.locks = false ∧ (Jvm.Cond.and given_1 narrow_1).before #[Value.ref b] s = true

def ad0 (a : Nat) (q : Nat → Nat) : List Nat := a :: ks0.map q
theorem wc0_ad {a : Nat} {q : Nat → Nat} {d : ClassId} {σ : St} {i : Nat} {x : Nat × va_E} (h : (wc0 a q d σ)[i]? = some x) : x.1 ∈ ad0 a q := by
  have hm := List.mem_of_getElem? h
  unfold wc0 at hm
  unfold ad0
  rcases List.mem_cons.mp hm with e | e
  · rw [e]; exact List.mem_cons_self
  · obtain ⟨k, hk, e⟩ := List.mem_map.mp e
    rw [← e]
    exact List.mem_cons_of_mem _ (List.mem_map.mpr ⟨k, hk, rfl⟩)

def ad1 (a : Nat) (q : Nat → Nat) : List Nat := a :: ks1.map q
theorem wc1_ad {a : Nat} {q : Nat → Nat} {d : ClassId} {σ : St} {i : Nat} {x : Nat × va_E} (h : (wc1 a q d σ)[i]? = some x) : x.1 ∈ ad1 a q := by
  have hm := List.mem_of_getElem? h
  unfold wc1 at hm
  unfold ad1
  rcases List.mem_cons.mp hm with e | e
  · rw [e]; exact List.mem_cons_self
  · obtain ⟨k, hk, e⟩ := List.mem_map.mp e
    rw [← e]
    exact List.mem_cons_of_mem _ (List.mem_map.mpr ⟨k, hk, rfl⟩)

/-- no cell of the one is a cell of the other -/
def apt (a0 : Nat) (q0 : Nat → Nat) (a1 : Nat) (q1 : Nat → Nat) : Prop := ∀ x, x ∈ ad0 a0 q0 → x ∈ ad1 a1 q1 → False
/-- the law calls 0: the other's world stays -/
theorem L_call0 {p : Program} {l : Launch} {e : Env} {R : Room} {s : State} {m : MethodId} {args : Array Value} {below : List Frame} {meth : Method} {c : Code} {H : Heap} {locs : List Loc} {cells slots : Nat} {Q : State → Prop} {cc : ByteArray} {pc nL : Nat} {ls : Array Slot} {rest st0 : List Value} {dC : Nat → ClassId} {dI : Nat → Nat → Nat} {A : Nat → Prop} {a0 a1 : Nat} {q0 q1 : Nat → Nat} {d : ClassId} {σ τ : St} {own : String} {y : MethodName} {b : ByteArray} {L fr lo idx : Nat} {ty : FieldType} {as : List Value} {post : Int32 → St → Prop} (n : Nat) (X : cx own p s m args c cc nL dC dI d) (hA : ∀ x, s.heap.size ≤ x → A x) (h0 : wd0 dC dI A s.heap a0 q0 d σ H locs) (h1 : wd1 dC dI A s.heap a1 q1 d τ H locs) (hap : apt a0 q0 a1 q1) (hM : Ci0 l y b L ty fr lo as σ post) (hg : GoodIn lw_all (wsV own idx RX0 y (ws_ y b L (some ty))))
    (hd : y.cls = RX0 ∧ y.cls ≠ "java/lang/invoke/MethodHandle" ∧ y.cls ≠ "java/lang/invoke/VarHandle" ∧ (parseMethodDescriptor y.desc).map (fun d => d.parameters.length) = some n) (hn : as.length = n) (hR : fr + 1 ≤ R.frames ∧ 8 + (L + 11) + lo ≤ R.locals) (hls : ls.size = nL) (hst : st0 = as.reverse ++ .ref a0 :: rest) (h8 : (rest.map fun v => v.category).sum ≤ 8) (hdg : decode cc pc = .ok (.invokevirtual idx, 3)) (hcs : cells ≤ R.cells ∧ slots ≤ R.slots)
    (kk : ∀ (r : Int32) (u : St) (H : Heap) (locs : List Loc), post r u → wd0 dC dI A s.heap a0 q0 d u H locs → wd1 dC dI A s.heap a1 q1 d τ H locs → W p l e R s m args below meth c H locs cells slots Q (F0 m (pc + 3) ls (.int r :: rest))) : W p l e R s m args below meth c H locs cells slots Q (F0 m pc ls st0) := by
  refine r0_calli n X hA h0 hM hg hd hn hR hls hst h8 hdg hcs (fun r u H1 locs1 hp hw hz hk => kk r u H1 locs1 hp hw ⟨?_, h1.2.1, hw.2.2⟩)
  refine h1.1.kept (fun k x hx => hk x.1 (h1.1 k x hx).lt (fun hv => ?_))
  rcases hv with ⟨j, e', h⟩ | h
  · exact hap x.1 (wc0_ad (x := (x.1, e')) h) (wc1_ad hx)
  · have := (h1.1 k x hx).lt
    omega

/-- the law calls 1: the other's world stays -/
theorem L_call1 {p : Program} {l : Launch} {e : Env} {R : Room} {s : State} {m : MethodId} {args : Array Value} {below : List Frame} {meth : Method} {c : Code} {H : Heap} {locs : List Loc} {cells slots : Nat} {Q : State → Prop} {cc : ByteArray} {pc nL : Nat} {ls : Array Slot} {rest st0 : List Value} {dC : Nat → ClassId} {dI : Nat → Nat → Nat} {A : Nat → Prop} {a0 a1 : Nat} {q0 q1 : Nat → Nat} {d : ClassId} {σ τ : St} {own : String} {y : MethodName} {b : ByteArray} {L fr lo idx : Nat} {ty : FieldType} {as : List Value} {post : Int32 → St → Prop} (n : Nat) (X : cx own p s m args c cc nL dC dI d) (hA : ∀ x, s.heap.size ≤ x → A x) (h0 : wd0 dC dI A s.heap a0 q0 d σ H locs) (h1 : wd1 dC dI A s.heap a1 q1 d τ H locs) (hap : apt a0 q0 a1 q1) (hM : Ci1 l y b L ty fr lo as τ post) (hg : GoodIn lw_all (wsV own idx RX1 y (ws_ y b L (some ty))))
    (hd : y.cls = RX1 ∧ y.cls ≠ "java/lang/invoke/MethodHandle" ∧ y.cls ≠ "java/lang/invoke/VarHandle" ∧ (parseMethodDescriptor y.desc).map (fun d => d.parameters.length) = some n) (hn : as.length = n) (hR : fr + 1 ≤ R.frames ∧ 8 + (L + 11) + lo ≤ R.locals) (hls : ls.size = nL) (hst : st0 = as.reverse ++ .ref a1 :: rest) (h8 : (rest.map fun v => v.category).sum ≤ 8) (hdg : decode cc pc = .ok (.invokevirtual idx, 3)) (hcs : cells ≤ R.cells ∧ slots ≤ R.slots)
    (kk : ∀ (r : Int32) (u : St) (H : Heap) (locs : List Loc), post r u → wd1 dC dI A s.heap a1 q1 d u H locs → wd0 dC dI A s.heap a0 q0 d σ H locs → W p l e R s m args below meth c H locs cells slots Q (F0 m (pc + 3) ls (.int r :: rest))) : W p l e R s m args below meth c H locs cells slots Q (F0 m pc ls st0) := by
  refine r1_calli n X hA h1 hM hg hd hn hR hls hst h8 hdg hcs (fun r u H1 locs1 hp hw hz hk => kk r u H1 locs1 hp hw ⟨?_, h0.2.1, hw.2.2⟩)
  refine h0.1.kept (fun k x hx => hk x.1 (h0.1 k x hx).lt (fun hv => ?_))
  rcases hv with ⟨j, e', h⟩ | h
  · exact hap x.1 (wc0_ad hx) (wc1_ad (x := (x.1, e')) h)
  · have := (h0.1 k x hx).lt
    omega

theorem L_sld {p : Program} {l : Launch} {e : Env} {R : Room} {s : State} {m : MethodId} {args : Array Value} {below : List Frame} {meth : Method} {c : Code} {H : Heap} {locs : List Loc} {cells slots : Nat} {Q : State → Prop} {cc : ByteArray} {pc : Nat} {ls : Array Slot} {rest : List Value} {A : Nat → Prop} {b L : Nat} {xs : Nat → Int32} (hx : p.tables.exec = Jvm.exec) (hb : c.code = cc) (hX : va_X b L xs s s.heap) (hbl : b < s.heap.size) (hbA : ¬ A b) (hS : va_S A s.heap H locs) (hL : L ≤ 320) (j : Nat) (hj : j < L) (hdg : decode cc pc = .ok (.iaload, 1))
    (kk : W p l e R s m args below meth c H locs cells slots Q (F0 m (pc + 1) ls (.int (xs j) :: rest))) : W p l e R s m args below meth c H locs cells slots Q (F0 m pc ls (.int (nI j) :: .ref b :: rest)) := by
  refine va_sld hx hb hX hbl hbA hS (vp_in_nI hj (by omega)) hdg ?_
  rw [nI_clamp (by omega)]
  exact kk
theorem l5 {L i : Nat} (hL : L ≤ 320) (hi : i ≤ L) (h : ¬ nI L - 5 < nI i) : i + 5 ≤ L := by
  have e : (nI L - nI 5).toInt = (L : Int) - 5 := pk_sub_toInt (by omega) (by omega)
  have h2 : nI i ≤ nI L - nI 5 := Int32.not_lt.mp h
  rw [Int32.le_iff_toInt_le, e, nI_toInt (by omega)] at h2
  omega
theorem szw1 {σ τ : St} (h : Inv σ τ) : szw τ := by
  intro f
  rw [← h.1.1]
  exact h.1.2.2.2.2.2.1 f
/-- the classes, known at the law's entry -/
theorem L_classes {s : State} {b : Nat} (hts : ∀ w ∈ lw_all, w.before #[Value.ref b] s = true) : ∃ (dC : Nat → ClassId) (dI : Nat → Nat → Nat), va_K (dC, dI) vwCl [] s := by
  obtain ⟨c0_, iS0, hKn0⟩ := u_known (C := RX0) (T := TX0) (N := 17) (n := 17) hts in_X0 (hts _ q25)
  obtain ⟨c1_, iS1, hKn1⟩ := u_known (C := RX1) (T := TX1) (N := 12) (n := 12) hts in_X1 (hts _ q193)
  refine ⟨fun k => if k = 0 then c0_ else c1_, fun k => if k = 0 then iS0 else iS1, ?_, fun k q hq => by simp at hq⟩
  intro k q hq
  match k, hq with
  | 0, hq => cases hq; exact hKn0
  | 1, hq => cases hq; exact hKn1
  | k + 2, hq => simp [vwCl] at hq
end
section
set_option maxRecDepth 100000
set_option maxHeartbeats 4000000 in
/-- the law's loop at its head: Inv holds between the two -/
theorem L_loop {p : Program} {l : Launch} {e : Env} {s : State} {m : MethodId} {args : Array Value} {below : List Frame} {meth : Method} {c : Code} {Q : State → Prop} {dC : Nat → ClassId} {dI : Nat → Nat → Nat} {A : Nat → Prop} {d : ClassId} {b L : Nat} {xs : Nat → Int32} {a0 a1 : Nat} {q0 q1 : Nat → Nat} (hL : L ≤ 320) (X : cx R_law p s m args c cL_law 4 dC dI d) (hA : ∀ x, s.heap.size ≤ x → A x) (hX : va_X b L xs s s.heap) (hbl : b < s.heap.size) (hbA : ¬ A b) (hap : apt a0 q0 a1 q1)
    (hend : ∀ (σ : St) (H : Heap) (locs : List Loc) (ls : Array Slot), decode cL_law 442 = .ok (.ireturn, 1) → wd0 dC dI A s.heap a0 q0 d σ H locs → W p l e room_1 s m args below meth c H locs 28 474 Q (F0 m 442 ls [.int 1])) :
    ∀ (n i : Nat) (σ τ : St) (H : Heap) (locs : List Loc) (ls : Array Slot), i ≤ L → L + 1 ≤ i + n → Inv σ τ → wd0 dC dI A s.heap a0 q0 d σ H locs → wd1 dC dI A s.heap a1 q1 d τ H locs → lv_has ls 4 [(0, .ref b), (1, .ref a0), (2, .ref a1), (3, .int (nI i))] → W p l e room_1 s m args below meth c H locs 28 474 Q (F0 m 18 ls []) := by
  have hx := X.1.1
  have hb := X.1.2.1
  intro n
  induction n with
  | zero =>
    intro i σ τ H locs ls h1 h2
    exact absurd h2 (by omega)
  | succ n ih =>
    intro i σ τ H locs ls hi hin hI h0 h1 hl
    refine lv_iload_n hx hb dL_law_18 rfl (lv_at hl 3 rfl) ?_
    refine lv_aload_n hx hb dL_law_19 rfl (lv_at hl 0 rfl) ?_
    refine va_slen hx hb hX hbl hbA h0.2.2 dL_law_20 ?_
    refine lv_iconst (v := 5) hx hb dL_law_21 (by decide) ?_
    refine lv_isub hx hb dL_law_22 ?_
    refine lv_icmp_gt (tgt := 441) hx hb dL_law_23 (by decide) (fun c23 => ?_) (fun c23 => ?_)
    · refine lv_iconst (v := 1) hx hb dL_law_441 (by decide) ?_
      exact hend _ _ _ _ dL_law_442 h0
    · have h5 := l5 hL hi c23
      refine lv_aload_n hx hb dL_law_26 rfl (lv_at hl 0 rfl) ?_
      refine lv_iload_n hx hb dL_law_27 rfl (lv_at hl 3 rfl) ?_
      refine L_sld hx hb hX hbl hbA h0.2.2 hL i (by omega) dL_law_28 ?_
      refine lv_bipush (v := 15) hx hb dL_law_29 (by decide) ?_
      refine lv_iand hx hb dL_law_31 ?_
      by_cases o0 : (xs i) &&& 15 = 0
      · refine lv_tableIn (tgt := 92) (off := 60) hx hb dL_law_32 (by rw [o0]; decide) (by rw [o0]; decide) (by rw [o0]; rfl) (by decide) ?_
        refine lv_aload_n hx hb dL_law_92 rfl (lv_at hl 1 rfl) ?_
        refine lv_aload_n hx hb dL_law_93 rfl (lv_at hl 0 rfl) ?_
        refine lv_iload_n hx hb dL_law_94 rfl (lv_at hl 3 rfl) ?_
        refine lv_iconst (v := nI 1) hx hb dL_law_95 (by decide) ?_
        refine lv_iadd hx hb dL_law_96 ?_
        refine x_top (y := nI (i + 1)) (nI_add i 1) ?_
        refine L_sld hx hb hX hbl hbA h0.2.2 hL (i + 1) (by omega) dL_law_97 ?_
        refine lv_aload_n hx hb dL_law_98 rfl (lv_at hl 0 rfl) ?_
        refine lv_iload_n hx hb dL_law_99 rfl (lv_at hl 3 rfl) ?_
        refine lv_iconst (v := nI 2) hx hb dL_law_100 (by decide) ?_
        refine lv_iadd hx hb dL_law_101 ?_
        refine x_top (y := nI (i + 2)) (nI_add i 2) ?_
        refine L_sld hx hb hX hbl hbA h0.2.2 hL (i + 2) (by omega) dL_law_102 ?_
        refine lv_aload_n hx hb dL_law_103 rfl (lv_at hl 0 rfl) ?_
        refine lv_iload_n hx hb dL_law_104 rfl (lv_at hl 3 rfl) ?_
        refine lv_iconst (v := nI 3) hx hb dL_law_105 (by decide) ?_
        refine lv_iadd hx hb dL_law_106 ?_
        refine x_top (y := nI (i + 3)) (nI_add i 3) ?_
        refine L_sld hx hb hX hbl hbA h0.2.2 hL (i + 3) (by omega) dL_law_107 ?_
        refine lv_aload_n hx hb dL_law_108 rfl (lv_at hl 0 rfl) ?_
        refine lv_iload_n hx hb dL_law_109 rfl (lv_at hl 3 rfl) ?_
        refine lv_iconst (v := nI 4) hx hb dL_law_110 (by decide) ?_
        refine lv_iadd hx hb dL_law_111 ?_
        refine x_top (y := nI (i + 4)) (nI_add i 4) ?_
        refine L_sld hx hb hX hbl hbA h0.2.2 hL (i + 4) (by omega) dL_law_112 ?_
        refine L_call0 (rest := []) 4 X hA h0 h1 hap (k0_emit l σ (xs (i + 1)) (xs (i + 2)) (xs (i + 3)) (xs (i + 4)) hI.1.2.2.2.2.2.1) (lw_V q85 q86 q87 q22 q88) (by decide +kernel) rfl ⟨Nat.le_of_ble_eq_true rfl, Nat.le_of_ble_eq_true rfl⟩ hl.1 rfl (Nat.le_of_ble_eq_true rfl) dL_law_113 ⟨Nat.le_of_ble_eq_true rfl, Nat.le_of_ble_eq_true rfl⟩ (fun rq uq H locs hu h0 h1 => ?_)
        obtain ⟨er, hu⟩ := hu
        rw [hu] at h0
        rw [er]
        refine lv_aload_n hx hb dL_law_116 rfl (lv_at hl 2 rfl) ?_
        refine lv_aload_n hx hb dL_law_117 rfl (lv_at hl 0 rfl) ?_
        refine lv_iload_n hx hb dL_law_118 rfl (lv_at hl 3 rfl) ?_
        refine lv_iconst (v := nI 1) hx hb dL_law_119 (by decide) ?_
        refine lv_iadd hx hb dL_law_120 ?_
        refine x_top (y := nI (i + 1)) (nI_add i 1) ?_
        refine L_sld hx hb hX hbl hbA h0.2.2 hL (i + 1) (by omega) dL_law_121 ?_
        refine lv_aload_n hx hb dL_law_122 rfl (lv_at hl 0 rfl) ?_
        refine lv_iload_n hx hb dL_law_123 rfl (lv_at hl 3 rfl) ?_
        refine lv_iconst (v := nI 2) hx hb dL_law_124 (by decide) ?_
        refine lv_iadd hx hb dL_law_125 ?_
        refine x_top (y := nI (i + 2)) (nI_add i 2) ?_
        refine L_sld hx hb hX hbl hbA h0.2.2 hL (i + 2) (by omega) dL_law_126 ?_
        refine lv_aload_n hx hb dL_law_127 rfl (lv_at hl 0 rfl) ?_
        refine lv_iload_n hx hb dL_law_128 rfl (lv_at hl 3 rfl) ?_
        refine lv_iconst (v := nI 3) hx hb dL_law_129 (by decide) ?_
        refine lv_iadd hx hb dL_law_130 ?_
        refine x_top (y := nI (i + 3)) (nI_add i 3) ?_
        refine L_sld hx hb hX hbl hbA h0.2.2 hL (i + 3) (by omega) dL_law_131 ?_
        refine lv_aload_n hx hb dL_law_132 rfl (lv_at hl 0 rfl) ?_
        refine lv_iload_n hx hb dL_law_133 rfl (lv_at hl 3 rfl) ?_
        refine lv_iconst (v := nI 4) hx hb dL_law_134 (by decide) ?_
        refine lv_iadd hx hb dL_law_135 ?_
        refine x_top (y := nI (i + 4)) (nI_add i 4) ?_
        refine L_sld hx hb hX hbl hbA h0.2.2 hL (i + 4) (by omega) dL_law_136 ?_
        refine L_call1 (rest := [.int ((em0 σ (xs (i + 1)) (xs (i + 2)) (xs (i + 3)) (xs (i + 4))).1)]) 4 X hA h0 h1 hap (k1_emit l τ (xs (i + 1)) (xs (i + 2)) (xs (i + 3)) (xs (i + 4)) (szw1 hI)) (lw_V q235 q236 q237 q23 q238) (by decide +kernel) rfl ⟨Nat.le_of_ble_eq_true rfl, Nat.le_of_ble_eq_true rfl⟩ hl.1 rfl (Nat.le_of_ble_eq_true rfl) dL_law_137 ⟨Nat.le_of_ble_eq_true rfl, Nat.le_of_ble_eq_true rfl⟩ (fun rq uq H locs hu h1 h0 => ?_)
        obtain ⟨er, hu⟩ := hu
        rw [hu] at h1
        rw [er]
        refine lv_icmp_eq (tgt := 435) hx hb dL_law_140 (by decide) (fun c140 => ?_) (fun c140 => ?_)
        · refine lv_iinc (v := nI (i + 5)) (lv' := [(3, .int (nI (i + 5))), (0, .ref b), (1, .ref a0), (2, .ref a1)]) hx hb dL_law_435 hl (k := 3) rfl (nI_add i 5) (by decide) rfl (fun ls hl => ?_)
          refine lv_goto (tgt := 18) hx hb dL_law_438 (by decide) ?_
          exact ih (i + 5) ((em0 σ (xs (i + 1)) (xs (i + 2)) (xs (i + 3)) (xs (i + 4))).2) ((e11 τ (xs (i + 1)) (xs (i + 2)) (xs (i + 3)) (xs (i + 4))).2) _ _ _ (by omega) (by omega) ((em_sim (xs (i + 1)) (xs (i + 2)) (xs (i + 3)) (xs (i + 4)) hI).2) h0 h1 (lv_sub hl [1, 2, 3, 0] rfl)
        · exact absurd ((em_sim (xs (i + 1)) (xs (i + 2)) (xs (i + 3)) (xs (i + 4)) hI).1) c140
      by_cases o1 : (xs i) &&& 15 = 1
      · refine lv_tableIn (tgt := 145) (off := 113) hx hb dL_law_32 (by rw [o1]; decide) (by rw [o1]; decide) (by rw [o1]; rfl) (by decide) ?_
        refine lv_aload_n hx hb dL_law_145 rfl (lv_at hl 1 rfl) ?_
        refine lv_aload_n hx hb dL_law_146 rfl (lv_at hl 0 rfl) ?_
        refine lv_iload_n hx hb dL_law_147 rfl (lv_at hl 3 rfl) ?_
        refine lv_iconst (v := nI 1) hx hb dL_law_148 (by decide) ?_
        refine lv_iadd hx hb dL_law_149 ?_
        refine x_top (y := nI (i + 1)) (nI_add i 1) ?_
        refine L_sld hx hb hX hbl hbA h0.2.2 hL (i + 1) (by omega) dL_law_150 ?_
        refine lv_aload_n hx hb dL_law_151 rfl (lv_at hl 0 rfl) ?_
        refine lv_iload_n hx hb dL_law_152 rfl (lv_at hl 3 rfl) ?_
        refine lv_iconst (v := nI 2) hx hb dL_law_153 (by decide) ?_
        refine lv_iadd hx hb dL_law_154 ?_
        refine x_top (y := nI (i + 2)) (nI_add i 2) ?_
        refine L_sld hx hb hX hbl hbA h0.2.2 hL (i + 2) (by omega) dL_law_155 ?_
        refine lv_aload_n hx hb dL_law_156 rfl (lv_at hl 0 rfl) ?_
        refine lv_iload_n hx hb dL_law_157 rfl (lv_at hl 3 rfl) ?_
        refine lv_iconst (v := nI 3) hx hb dL_law_158 (by decide) ?_
        refine lv_iadd hx hb dL_law_159 ?_
        refine x_top (y := nI (i + 3)) (nI_add i 3) ?_
        refine L_sld hx hb hX hbl hbA h0.2.2 hL (i + 3) (by omega) dL_law_160 ?_
        refine L_call0 (rest := []) 3 X hA h0 h1 hap (k0_start l σ (xs (i + 1)) (xs (i + 2)) (xs (i + 3))) (lw_V q89 q90 q91 q22 q92) (by decide +kernel) rfl ⟨Nat.le_of_ble_eq_true rfl, Nat.le_of_ble_eq_true rfl⟩ hl.1 rfl (Nat.le_of_ble_eq_true rfl) dL_law_161 ⟨Nat.le_of_ble_eq_true rfl, Nat.le_of_ble_eq_true rfl⟩ (fun rq uq H locs hu h0 h1 => ?_)
        obtain ⟨er, hu⟩ := hu
        rw [hu] at h0
        rw [er]
        refine lv_aload_n hx hb dL_law_164 rfl (lv_at hl 2 rfl) ?_
        refine lv_aload_n hx hb dL_law_165 rfl (lv_at hl 0 rfl) ?_
        refine lv_iload_n hx hb dL_law_166 rfl (lv_at hl 3 rfl) ?_
        refine lv_iconst (v := nI 1) hx hb dL_law_167 (by decide) ?_
        refine lv_iadd hx hb dL_law_168 ?_
        refine x_top (y := nI (i + 1)) (nI_add i 1) ?_
        refine L_sld hx hb hX hbl hbA h0.2.2 hL (i + 1) (by omega) dL_law_169 ?_
        refine lv_aload_n hx hb dL_law_170 rfl (lv_at hl 0 rfl) ?_
        refine lv_iload_n hx hb dL_law_171 rfl (lv_at hl 3 rfl) ?_
        refine lv_iconst (v := nI 2) hx hb dL_law_172 (by decide) ?_
        refine lv_iadd hx hb dL_law_173 ?_
        refine x_top (y := nI (i + 2)) (nI_add i 2) ?_
        refine L_sld hx hb hX hbl hbA h0.2.2 hL (i + 2) (by omega) dL_law_174 ?_
        refine lv_aload_n hx hb dL_law_175 rfl (lv_at hl 0 rfl) ?_
        refine lv_iload_n hx hb dL_law_176 rfl (lv_at hl 3 rfl) ?_
        refine lv_iconst (v := nI 3) hx hb dL_law_177 (by decide) ?_
        refine lv_iadd hx hb dL_law_178 ?_
        refine x_top (y := nI (i + 3)) (nI_add i 3) ?_
        refine L_sld hx hb hX hbl hbA h0.2.2 hL (i + 3) (by omega) dL_law_179 ?_
        refine L_call1 (rest := [.int ((st0 σ (xs (i + 1)) (xs (i + 2)) (xs (i + 3))).1)]) 3 X hA h0 h1 hap (k1_start l τ (xs (i + 1)) (xs (i + 2)) (xs (i + 3))) (lw_V q239 q240 q241 q23 q242) (by decide +kernel) rfl ⟨Nat.le_of_ble_eq_true rfl, Nat.le_of_ble_eq_true rfl⟩ hl.1 rfl (Nat.le_of_ble_eq_true rfl) dL_law_180 ⟨Nat.le_of_ble_eq_true rfl, Nat.le_of_ble_eq_true rfl⟩ (fun rq uq H locs hu h1 h0 => ?_)
        obtain ⟨er, hu⟩ := hu
        rw [hu] at h1
        rw [er]
        refine lv_icmp_eq (tgt := 435) hx hb dL_law_183 (by decide) (fun c183 => ?_) (fun c183 => ?_)
        · refine lv_iinc (v := nI (i + 5)) (lv' := [(3, .int (nI (i + 5))), (0, .ref b), (1, .ref a0), (2, .ref a1)]) hx hb dL_law_435 hl (k := 3) rfl (nI_add i 5) (by decide) rfl (fun ls hl => ?_)
          refine lv_goto (tgt := 18) hx hb dL_law_438 (by decide) ?_
          exact ih (i + 5) ((st0 σ (xs (i + 1)) (xs (i + 2)) (xs (i + 3))).2) ((st1 τ (xs (i + 1)) (xs (i + 2)) (xs (i + 3))).2) _ _ _ (by omega) (by omega) ((st_sim (xs (i + 1)) (xs (i + 2)) (xs (i + 3)) hI).2) h0 h1 (lv_sub hl [1, 2, 3, 0] rfl)
        · exact absurd ((st_sim (xs (i + 1)) (xs (i + 2)) (xs (i + 3)) hI).1) c183
      by_cases o2 : (xs i) &&& 15 = 2
      · refine lv_tableIn (tgt := 188) (off := 156) hx hb dL_law_32 (by rw [o2]; decide) (by rw [o2]; decide) (by rw [o2]; rfl) (by decide) ?_
        refine lv_aload_n hx hb dL_law_188 rfl (lv_at hl 1 rfl) ?_
        refine lv_aload_n hx hb dL_law_189 rfl (lv_at hl 0 rfl) ?_
        refine lv_iload_n hx hb dL_law_190 rfl (lv_at hl 3 rfl) ?_
        refine lv_iconst (v := nI 1) hx hb dL_law_191 (by decide) ?_
        refine lv_iadd hx hb dL_law_192 ?_
        refine x_top (y := nI (i + 1)) (nI_add i 1) ?_
        refine L_sld hx hb hX hbl hbA h0.2.2 hL (i + 1) (by omega) dL_law_193 ?_
        refine lv_aload_n hx hb dL_law_194 rfl (lv_at hl 0 rfl) ?_
        refine lv_iload_n hx hb dL_law_195 rfl (lv_at hl 3 rfl) ?_
        refine lv_iconst (v := nI 2) hx hb dL_law_196 (by decide) ?_
        refine lv_iadd hx hb dL_law_197 ?_
        refine x_top (y := nI (i + 2)) (nI_add i 2) ?_
        refine L_sld hx hb hX hbl hbA h0.2.2 hL (i + 2) (by omega) dL_law_198 ?_
        refine L_call0 (rest := []) 2 X hA h0 h1 hap (k0_resume l σ τ (xs (i + 1)) (xs (i + 2)) hI) (lw_V q96 q97 q98 q22 q99) (by decide +kernel) rfl ⟨Nat.le_of_ble_eq_true rfl, Nat.le_of_ble_eq_true rfl⟩ hl.1 rfl (Nat.le_of_ble_eq_true rfl) dL_law_199 ⟨Nat.le_of_ble_eq_true rfl, Nat.le_of_ble_eq_true rfl⟩ (fun rq uq H locs hu h0 h1 => ?_)
        obtain ⟨er, hu⟩ := hu
        rw [hu] at h0
        rw [er]
        refine lv_aload_n hx hb dL_law_202 rfl (lv_at hl 2 rfl) ?_
        refine lv_aload_n hx hb dL_law_203 rfl (lv_at hl 0 rfl) ?_
        refine lv_iload_n hx hb dL_law_204 rfl (lv_at hl 3 rfl) ?_
        refine lv_iconst (v := nI 1) hx hb dL_law_205 (by decide) ?_
        refine lv_iadd hx hb dL_law_206 ?_
        refine x_top (y := nI (i + 1)) (nI_add i 1) ?_
        refine L_sld hx hb hX hbl hbA h0.2.2 hL (i + 1) (by omega) dL_law_207 ?_
        refine lv_aload_n hx hb dL_law_208 rfl (lv_at hl 0 rfl) ?_
        refine lv_iload_n hx hb dL_law_209 rfl (lv_at hl 3 rfl) ?_
        refine lv_iconst (v := nI 2) hx hb dL_law_210 (by decide) ?_
        refine lv_iadd hx hb dL_law_211 ?_
        refine x_top (y := nI (i + 2)) (nI_add i 2) ?_
        refine L_sld hx hb hX hbl hbA h0.2.2 hL (i + 2) (by omega) dL_law_212 ?_
        refine L_call1 (rest := [.int ((rs0 σ (xs (i + 1)) (xs (i + 2))).1)]) 2 X hA h0 h1 hap (k1_resume l σ τ (xs (i + 1)) (xs (i + 2)) hI) (lw_V q251 q252 q253 q23 q254) (by decide +kernel) rfl ⟨Nat.le_of_ble_eq_true rfl, Nat.le_of_ble_eq_true rfl⟩ hl.1 rfl (Nat.le_of_ble_eq_true rfl) dL_law_213 ⟨Nat.le_of_ble_eq_true rfl, Nat.le_of_ble_eq_true rfl⟩ (fun rq uq H locs hu h1 h0 => ?_)
        obtain ⟨er, hu⟩ := hu
        rw [hu] at h1
        rw [er]
        refine lv_icmp_eq (tgt := 435) hx hb dL_law_216 (by decide) (fun c216 => ?_) (fun c216 => ?_)
        · refine lv_iinc (v := nI (i + 5)) (lv' := [(3, .int (nI (i + 5))), (0, .ref b), (1, .ref a0), (2, .ref a1)]) hx hb dL_law_435 hl (k := 3) rfl (nI_add i 5) (by decide) rfl (fun ls hl => ?_)
          refine lv_goto (tgt := 18) hx hb dL_law_438 (by decide) ?_
          exact ih (i + 5) ((rs0 σ (xs (i + 1)) (xs (i + 2))).2) ((rs1 τ (xs (i + 1)) (xs (i + 2))).2) _ _ _ (by omega) (by omega) ((rs_sim (xs (i + 1)) (xs (i + 2)) hI).2) h0 h1 (lv_sub hl [1, 2, 3, 0] rfl)
        · exact absurd ((rs_sim (xs (i + 1)) (xs (i + 2)) hI).1) c216
      by_cases o3 : (xs i) &&& 15 = 3
      · refine lv_tableIn (tgt := 221) (off := 189) hx hb dL_law_32 (by rw [o3]; decide) (by rw [o3]; decide) (by rw [o3]; rfl) (by decide) ?_
        refine lv_aload_n hx hb dL_law_221 rfl (lv_at hl 1 rfl) ?_
        refine lv_aload_n hx hb dL_law_222 rfl (lv_at hl 0 rfl) ?_
        refine lv_iload_n hx hb dL_law_223 rfl (lv_at hl 3 rfl) ?_
        refine lv_iconst (v := nI 1) hx hb dL_law_224 (by decide) ?_
        refine lv_iadd hx hb dL_law_225 ?_
        refine x_top (y := nI (i + 1)) (nI_add i 1) ?_
        refine L_sld hx hb hX hbl hbA h0.2.2 hL (i + 1) (by omega) dL_law_226 ?_
        refine lv_aload_n hx hb dL_law_227 rfl (lv_at hl 0 rfl) ?_
        refine lv_iload_n hx hb dL_law_228 rfl (lv_at hl 3 rfl) ?_
        refine lv_iconst (v := nI 2) hx hb dL_law_229 (by decide) ?_
        refine lv_iadd hx hb dL_law_230 ?_
        refine x_top (y := nI (i + 2)) (nI_add i 2) ?_
        refine L_sld hx hb hX hbl hbA h0.2.2 hL (i + 2) (by omega) dL_law_231 ?_
        refine L_call0 (rest := []) 2 X hA h0 h1 hap (k0_echo l σ τ (xs (i + 1)) (xs (i + 2)) hI) (lw_V q160 q161 q162 q22 q163) (by decide +kernel) rfl ⟨Nat.le_of_ble_eq_true rfl, Nat.le_of_ble_eq_true rfl⟩ hl.1 rfl (Nat.le_of_ble_eq_true rfl) dL_law_232 ⟨Nat.le_of_ble_eq_true rfl, Nat.le_of_ble_eq_true rfl⟩ (fun rq uq H locs hu h0 h1 => ?_)
        obtain ⟨er, hu⟩ := hu
        rw [hu] at h0
        rw [er]
        refine lv_aload_n hx hb dL_law_235 rfl (lv_at hl 2 rfl) ?_
        refine lv_aload_n hx hb dL_law_236 rfl (lv_at hl 0 rfl) ?_
        refine lv_iload_n hx hb dL_law_237 rfl (lv_at hl 3 rfl) ?_
        refine lv_iconst (v := nI 1) hx hb dL_law_238 (by decide) ?_
        refine lv_iadd hx hb dL_law_239 ?_
        refine x_top (y := nI (i + 1)) (nI_add i 1) ?_
        refine L_sld hx hb hX hbl hbA h0.2.2 hL (i + 1) (by omega) dL_law_240 ?_
        refine lv_aload_n hx hb dL_law_241 rfl (lv_at hl 0 rfl) ?_
        refine lv_iload_n hx hb dL_law_242 rfl (lv_at hl 3 rfl) ?_
        refine lv_iconst (v := nI 2) hx hb dL_law_243 (by decide) ?_
        refine lv_iadd hx hb dL_law_244 ?_
        refine x_top (y := nI (i + 2)) (nI_add i 2) ?_
        refine L_sld hx hb hX hbl hbA h0.2.2 hL (i + 2) (by omega) dL_law_245 ?_
        refine L_call1 (rest := [.int ((ec0 σ (xs (i + 1)) (xs (i + 2))).1)]) 2 X hA h0 h1 hap (k1_echo l σ τ (xs (i + 1)) (xs (i + 2)) hI) (lw_V q271 q272 q273 q23 q274) (by decide +kernel) rfl ⟨Nat.le_of_ble_eq_true rfl, Nat.le_of_ble_eq_true rfl⟩ hl.1 rfl (Nat.le_of_ble_eq_true rfl) dL_law_246 ⟨Nat.le_of_ble_eq_true rfl, Nat.le_of_ble_eq_true rfl⟩ (fun rq uq H locs hu h1 h0 => ?_)
        obtain ⟨er, hu⟩ := hu
        rw [hu] at h1
        rw [er]
        refine lv_icmp_eq (tgt := 435) hx hb dL_law_249 (by decide) (fun c249 => ?_) (fun c249 => ?_)
        · refine lv_iinc (v := nI (i + 5)) (lv' := [(3, .int (nI (i + 5))), (0, .ref b), (1, .ref a0), (2, .ref a1)]) hx hb dL_law_435 hl (k := 3) rfl (nI_add i 5) (by decide) rfl (fun ls hl => ?_)
          refine lv_goto (tgt := 18) hx hb dL_law_438 (by decide) ?_
          exact ih (i + 5) ((ec0 σ (xs (i + 1)) (xs (i + 2))).2) ((ec1 τ (xs (i + 1)) (xs (i + 2))).2) _ _ _ (by omega) (by omega) ((ec_sim (xs (i + 1)) (xs (i + 2)) hI).2) h0 h1 (lv_sub hl [1, 2, 3, 0] rfl)
        · exact absurd ((ec_sim (xs (i + 1)) (xs (i + 2)) hI).1) c249
      by_cases o4 : (xs i) &&& 15 = 4
      · refine lv_tableIn (tgt := 254) (off := 222) hx hb dL_law_32 (by rw [o4]; decide) (by rw [o4]; decide) (by rw [o4]; rfl) (by decide) ?_
        refine lv_aload_n hx hb dL_law_254 rfl (lv_at hl 1 rfl) ?_
        refine lv_aload_n hx hb dL_law_255 rfl (lv_at hl 0 rfl) ?_
        refine lv_iload_n hx hb dL_law_256 rfl (lv_at hl 3 rfl) ?_
        refine lv_iconst (v := nI 1) hx hb dL_law_257 (by decide) ?_
        refine lv_iadd hx hb dL_law_258 ?_
        refine x_top (y := nI (i + 1)) (nI_add i 1) ?_
        refine L_sld hx hb hX hbl hbA h0.2.2 hL (i + 1) (by omega) dL_law_259 ?_
        refine lv_aload_n hx hb dL_law_260 rfl (lv_at hl 0 rfl) ?_
        refine lv_iload_n hx hb dL_law_261 rfl (lv_at hl 3 rfl) ?_
        refine lv_iconst (v := nI 2) hx hb dL_law_262 (by decide) ?_
        refine lv_iadd hx hb dL_law_263 ?_
        refine x_top (y := nI (i + 2)) (nI_add i 2) ?_
        refine L_sld hx hb hX hbl hbA h0.2.2 hL (i + 2) (by omega) dL_law_264 ?_
        refine L_call0 (rest := []) 2 X hA h0 h1 hap (k0_copy l σ (xs (i + 1)) (xs (i + 2))) (lw_V q164 q165 q166 q22 q167) (by decide +kernel) rfl ⟨Nat.le_of_ble_eq_true rfl, Nat.le_of_ble_eq_true rfl⟩ hl.1 rfl (Nat.le_of_ble_eq_true rfl) dL_law_265 ⟨Nat.le_of_ble_eq_true rfl, Nat.le_of_ble_eq_true rfl⟩ (fun rq uq H locs hu h0 h1 => ?_)
        obtain ⟨er, hu⟩ := hu
        rw [hu] at h0
        rw [er]
        refine lv_aload_n hx hb dL_law_268 rfl (lv_at hl 2 rfl) ?_
        refine lv_aload_n hx hb dL_law_269 rfl (lv_at hl 0 rfl) ?_
        refine lv_iload_n hx hb dL_law_270 rfl (lv_at hl 3 rfl) ?_
        refine lv_iconst (v := nI 1) hx hb dL_law_271 (by decide) ?_
        refine lv_iadd hx hb dL_law_272 ?_
        refine x_top (y := nI (i + 1)) (nI_add i 1) ?_
        refine L_sld hx hb hX hbl hbA h0.2.2 hL (i + 1) (by omega) dL_law_273 ?_
        refine lv_aload_n hx hb dL_law_274 rfl (lv_at hl 0 rfl) ?_
        refine lv_iload_n hx hb dL_law_275 rfl (lv_at hl 3 rfl) ?_
        refine lv_iconst (v := nI 2) hx hb dL_law_276 (by decide) ?_
        refine lv_iadd hx hb dL_law_277 ?_
        refine x_top (y := nI (i + 2)) (nI_add i 2) ?_
        refine L_sld hx hb hX hbl hbA h0.2.2 hL (i + 2) (by omega) dL_law_278 ?_
        refine L_call1 (rest := [.int ((cp0 σ (xs (i + 1)) (xs (i + 2))).1)]) 2 X hA h0 h1 hap (k1_copy l τ (xs (i + 1)) (xs (i + 2))) (lw_V q276 q277 q278 q23 q279) (by decide +kernel) rfl ⟨Nat.le_of_ble_eq_true rfl, Nat.le_of_ble_eq_true rfl⟩ hl.1 rfl (Nat.le_of_ble_eq_true rfl) dL_law_279 ⟨Nat.le_of_ble_eq_true rfl, Nat.le_of_ble_eq_true rfl⟩ (fun rq uq H locs hu h1 h0 => ?_)
        obtain ⟨er, hu⟩ := hu
        rw [hu] at h1
        rw [er]
        refine lv_icmp_eq (tgt := 435) hx hb dL_law_282 (by decide) (fun c282 => ?_) (fun c282 => ?_)
        · refine lv_iinc (v := nI (i + 5)) (lv' := [(3, .int (nI (i + 5))), (0, .ref b), (1, .ref a0), (2, .ref a1)]) hx hb dL_law_435 hl (k := 3) rfl (nI_add i 5) (by decide) rfl (fun ls hl => ?_)
          refine lv_goto (tgt := 18) hx hb dL_law_438 (by decide) ?_
          exact ih (i + 5) ((cp0 σ (xs (i + 1)) (xs (i + 2))).2) ((cp1 τ (xs (i + 1)) (xs (i + 2))).2) _ _ _ (by omega) (by omega) ((cp_sim (xs (i + 1)) (xs (i + 2)) hI).2) h0 h1 (lv_sub hl [1, 2, 3, 0] rfl)
        · exact absurd ((cp_sim (xs (i + 1)) (xs (i + 2)) hI).1) c282
      by_cases o5 : (xs i) &&& 15 = 5
      · refine lv_tableIn (tgt := 287) (off := 255) hx hb dL_law_32 (by rw [o5]; decide) (by rw [o5]; decide) (by rw [o5]; rfl) (by decide) ?_
        refine lv_aload_n hx hb dL_law_287 rfl (lv_at hl 1 rfl) ?_
        refine lv_aload_n hx hb dL_law_288 rfl (lv_at hl 0 rfl) ?_
        refine lv_iload_n hx hb dL_law_289 rfl (lv_at hl 3 rfl) ?_
        refine lv_iconst (v := nI 1) hx hb dL_law_290 (by decide) ?_
        refine lv_iadd hx hb dL_law_291 ?_
        refine x_top (y := nI (i + 1)) (nI_add i 1) ?_
        refine L_sld hx hb hX hbl hbA h0.2.2 hL (i + 1) (by omega) dL_law_292 ?_
        refine L_call0 (rest := []) 1 X hA h0 h1 hap (k0_drop l σ (xs (i + 1))) (lw_V q168 q169 q170 q22 q171) (by decide +kernel) rfl ⟨Nat.le_of_ble_eq_true rfl, Nat.le_of_ble_eq_true rfl⟩ hl.1 rfl (Nat.le_of_ble_eq_true rfl) dL_law_293 ⟨Nat.le_of_ble_eq_true rfl, Nat.le_of_ble_eq_true rfl⟩ (fun rq uq H locs hu h0 h1 => ?_)
        obtain ⟨er, hu⟩ := hu
        rw [hu] at h0
        rw [er]
        refine lv_aload_n hx hb dL_law_296 rfl (lv_at hl 2 rfl) ?_
        refine lv_aload_n hx hb dL_law_297 rfl (lv_at hl 0 rfl) ?_
        refine lv_iload_n hx hb dL_law_298 rfl (lv_at hl 3 rfl) ?_
        refine lv_iconst (v := nI 1) hx hb dL_law_299 (by decide) ?_
        refine lv_iadd hx hb dL_law_300 ?_
        refine x_top (y := nI (i + 1)) (nI_add i 1) ?_
        refine L_sld hx hb hX hbl hbA h0.2.2 hL (i + 1) (by omega) dL_law_301 ?_
        refine L_call1 (rest := [.int ((dr0 σ (xs (i + 1))).1)]) 1 X hA h0 h1 hap (k1_drop l τ (xs (i + 1))) (lw_V q280 q281 q282 q23 q283) (by decide +kernel) rfl ⟨Nat.le_of_ble_eq_true rfl, Nat.le_of_ble_eq_true rfl⟩ hl.1 rfl (Nat.le_of_ble_eq_true rfl) dL_law_302 ⟨Nat.le_of_ble_eq_true rfl, Nat.le_of_ble_eq_true rfl⟩ (fun rq uq H locs hu h1 h0 => ?_)
        obtain ⟨er, hu⟩ := hu
        rw [hu] at h1
        rw [er]
        refine lv_icmp_eq (tgt := 435) hx hb dL_law_305 (by decide) (fun c305 => ?_) (fun c305 => ?_)
        · refine lv_iinc (v := nI (i + 5)) (lv' := [(3, .int (nI (i + 5))), (0, .ref b), (1, .ref a0), (2, .ref a1)]) hx hb dL_law_435 hl (k := 3) rfl (nI_add i 5) (by decide) rfl (fun ls hl => ?_)
          refine lv_goto (tgt := 18) hx hb dL_law_438 (by decide) ?_
          exact ih (i + 5) ((dr0 σ (xs (i + 1))).2) ((dr1 τ (xs (i + 1))).2) _ _ _ (by omega) (by omega) ((dr_sim (xs (i + 1)) hI).2) h0 h1 (lv_sub hl [1, 2, 3, 0] rfl)
        · exact absurd ((dr_sim (xs (i + 1)) hI).1) c305
      by_cases o6 : (xs i) &&& 15 = 6
      · refine lv_tableIn (tgt := 310) (off := 278) hx hb dL_law_32 (by rw [o6]; decide) (by rw [o6]; decide) (by rw [o6]; rfl) (by decide) ?_
        refine lv_aload_n hx hb dL_law_310 rfl (lv_at hl 1 rfl) ?_
        refine lv_aload_n hx hb dL_law_311 rfl (lv_at hl 0 rfl) ?_
        refine lv_iload_n hx hb dL_law_312 rfl (lv_at hl 3 rfl) ?_
        refine lv_iconst (v := nI 1) hx hb dL_law_313 (by decide) ?_
        refine lv_iadd hx hb dL_law_314 ?_
        refine x_top (y := nI (i + 1)) (nI_add i 1) ?_
        refine L_sld hx hb hX hbl hbA h0.2.2 hL (i + 1) (by omega) dL_law_315 ?_
        refine L_call0 (rest := []) 1 X hA h0 h1 hap (k0_state l σ (xs (i + 1))) (lw_V q172 q173 q174 q22 q175) (by decide +kernel) rfl ⟨Nat.le_of_ble_eq_true rfl, Nat.le_of_ble_eq_true rfl⟩ hl.1 rfl (Nat.le_of_ble_eq_true rfl) dL_law_316 ⟨Nat.le_of_ble_eq_true rfl, Nat.le_of_ble_eq_true rfl⟩ (fun rq uq H locs hu h0 h1 => ?_)
        obtain ⟨er, hu⟩ := hu
        rw [hu] at h0
        rw [er]
        refine lv_aload_n hx hb dL_law_319 rfl (lv_at hl 2 rfl) ?_
        refine lv_aload_n hx hb dL_law_320 rfl (lv_at hl 0 rfl) ?_
        refine lv_iload_n hx hb dL_law_321 rfl (lv_at hl 3 rfl) ?_
        refine lv_iconst (v := nI 1) hx hb dL_law_322 (by decide) ?_
        refine lv_iadd hx hb dL_law_323 ?_
        refine x_top (y := nI (i + 1)) (nI_add i 1) ?_
        refine L_sld hx hb hX hbl hbA h0.2.2 hL (i + 1) (by omega) dL_law_324 ?_
        refine L_call1 (rest := [.int (qu 7 σ (xs (i + 1)))]) 1 X hA h0 h1 hap (k1_state l τ (xs (i + 1))) (lw_V q284 q285 q286 q23 q287) (by decide +kernel) rfl ⟨Nat.le_of_ble_eq_true rfl, Nat.le_of_ble_eq_true rfl⟩ hl.1 rfl (Nat.le_of_ble_eq_true rfl) dL_law_325 ⟨Nat.le_of_ble_eq_true rfl, Nat.le_of_ble_eq_true rfl⟩ (fun rq uq H locs hu h1 h0 => ?_)
        obtain ⟨er, hu⟩ := hu
        rw [hu] at h1
        rw [er]
        refine lv_icmp_eq (tgt := 435) hx hb dL_law_328 (by decide) (fun c328 => ?_) (fun c328 => ?_)
        · refine lv_iinc (v := nI (i + 5)) (lv' := [(3, .int (nI (i + 5))), (0, .ref b), (1, .ref a0), (2, .ref a1)]) hx hb dL_law_435 hl (k := 3) rfl (nI_add i 5) (by decide) rfl (fun ls hl => ?_)
          refine lv_goto (tgt := 18) hx hb dL_law_438 (by decide) ?_
          exact ih (i + 5) σ τ _ _ _ (by omega) (by omega) hI h0 h1 (lv_sub hl [1, 2, 3, 0] rfl)
        · exact absurd (qu_sim (xs (i + 1)) (fun c hc => (hI.2.2 c hc).1)) c328
      by_cases o7 : (xs i) &&& 15 = 7
      · refine lv_tableIn (tgt := 333) (off := 301) hx hb dL_law_32 (by rw [o7]; decide) (by rw [o7]; decide) (by rw [o7]; rfl) (by decide) ?_
        refine lv_aload_n hx hb dL_law_333 rfl (lv_at hl 1 rfl) ?_
        refine lv_aload_n hx hb dL_law_334 rfl (lv_at hl 0 rfl) ?_
        refine lv_iload_n hx hb dL_law_335 rfl (lv_at hl 3 rfl) ?_
        refine lv_iconst (v := nI 1) hx hb dL_law_336 (by decide) ?_
        refine lv_iadd hx hb dL_law_337 ?_
        refine x_top (y := nI (i + 1)) (nI_add i 1) ?_
        refine L_sld hx hb hX hbl hbA h0.2.2 hL (i + 1) (by omega) dL_law_338 ?_
        refine L_call0 (rest := []) 1 X hA h0 h1 hap (k0_value l σ (xs (i + 1))) (lw_V q176 q177 q178 q22 q179) (by decide +kernel) rfl ⟨Nat.le_of_ble_eq_true rfl, Nat.le_of_ble_eq_true rfl⟩ hl.1 rfl (Nat.le_of_ble_eq_true rfl) dL_law_339 ⟨Nat.le_of_ble_eq_true rfl, Nat.le_of_ble_eq_true rfl⟩ (fun rq uq H locs hu h0 h1 => ?_)
        obtain ⟨er, hu⟩ := hu
        rw [hu] at h0
        rw [er]
        refine lv_aload_n hx hb dL_law_342 rfl (lv_at hl 2 rfl) ?_
        refine lv_aload_n hx hb dL_law_343 rfl (lv_at hl 0 rfl) ?_
        refine lv_iload_n hx hb dL_law_344 rfl (lv_at hl 3 rfl) ?_
        refine lv_iconst (v := nI 1) hx hb dL_law_345 (by decide) ?_
        refine lv_iadd hx hb dL_law_346 ?_
        refine x_top (y := nI (i + 1)) (nI_add i 1) ?_
        refine L_sld hx hb hX hbl hbA h0.2.2 hL (i + 1) (by omega) dL_law_347 ?_
        refine L_call1 (rest := [.int (qu 8 σ (xs (i + 1)))]) 1 X hA h0 h1 hap (k1_value l τ (xs (i + 1))) (lw_V q288 q289 q290 q23 q291) (by decide +kernel) rfl ⟨Nat.le_of_ble_eq_true rfl, Nat.le_of_ble_eq_true rfl⟩ hl.1 rfl (Nat.le_of_ble_eq_true rfl) dL_law_348 ⟨Nat.le_of_ble_eq_true rfl, Nat.le_of_ble_eq_true rfl⟩ (fun rq uq H locs hu h1 h0 => ?_)
        obtain ⟨er, hu⟩ := hu
        rw [hu] at h1
        rw [er]
        refine lv_icmp_eq (tgt := 435) hx hb dL_law_351 (by decide) (fun c351 => ?_) (fun c351 => ?_)
        · refine lv_iinc (v := nI (i + 5)) (lv' := [(3, .int (nI (i + 5))), (0, .ref b), (1, .ref a0), (2, .ref a1)]) hx hb dL_law_435 hl (k := 3) rfl (nI_add i 5) (by decide) rfl (fun ls hl => ?_)
          refine lv_goto (tgt := 18) hx hb dL_law_438 (by decide) ?_
          exact ih (i + 5) σ τ _ _ _ (by omega) (by omega) hI h0 h1 (lv_sub hl [1, 2, 3, 0] rfl)
        · exact absurd (qu_sim (xs (i + 1)) (fun c hc => (hI.2.2 c hc).2.1)) c351
      by_cases o8 : (xs i) &&& 15 = 8
      · refine lv_tableIn (tgt := 356) (off := 324) hx hb dL_law_32 (by rw [o8]; decide) (by rw [o8]; decide) (by rw [o8]; rfl) (by decide) ?_
        refine lv_aload_n hx hb dL_law_356 rfl (lv_at hl 1 rfl) ?_
        refine lv_aload_n hx hb dL_law_357 rfl (lv_at hl 0 rfl) ?_
        refine lv_iload_n hx hb dL_law_358 rfl (lv_at hl 3 rfl) ?_
        refine lv_iconst (v := nI 1) hx hb dL_law_359 (by decide) ?_
        refine lv_iadd hx hb dL_law_360 ?_
        refine x_top (y := nI (i + 1)) (nI_add i 1) ?_
        refine L_sld hx hb hX hbl hbA h0.2.2 hL (i + 1) (by omega) dL_law_361 ?_
        refine L_call0 (rest := []) 1 X hA h0 h1 hap (k0_depth l σ (xs (i + 1))) (lw_V q180 q181 q182 q22 q183) (by decide +kernel) rfl ⟨Nat.le_of_ble_eq_true rfl, Nat.le_of_ble_eq_true rfl⟩ hl.1 rfl (Nat.le_of_ble_eq_true rfl) dL_law_362 ⟨Nat.le_of_ble_eq_true rfl, Nat.le_of_ble_eq_true rfl⟩ (fun rq uq H locs hu h0 h1 => ?_)
        obtain ⟨er, hu⟩ := hu
        rw [hu] at h0
        rw [er]
        refine lv_aload_n hx hb dL_law_365 rfl (lv_at hl 2 rfl) ?_
        refine lv_aload_n hx hb dL_law_366 rfl (lv_at hl 0 rfl) ?_
        refine lv_iload_n hx hb dL_law_367 rfl (lv_at hl 3 rfl) ?_
        refine lv_iconst (v := nI 1) hx hb dL_law_368 (by decide) ?_
        refine lv_iadd hx hb dL_law_369 ?_
        refine x_top (y := nI (i + 1)) (nI_add i 1) ?_
        refine L_sld hx hb hX hbl hbA h0.2.2 hL (i + 1) (by omega) dL_law_370 ?_
        refine L_call1 (rest := [.int (qu 10 σ (xs (i + 1)))]) 1 X hA h0 h1 hap (k1_depth l τ (xs (i + 1))) (lw_V q292 q293 q294 q23 q295) (by decide +kernel) rfl ⟨Nat.le_of_ble_eq_true rfl, Nat.le_of_ble_eq_true rfl⟩ hl.1 rfl (Nat.le_of_ble_eq_true rfl) dL_law_371 ⟨Nat.le_of_ble_eq_true rfl, Nat.le_of_ble_eq_true rfl⟩ (fun rq uq H locs hu h1 h0 => ?_)
        obtain ⟨er, hu⟩ := hu
        rw [hu] at h1
        rw [er]
        refine lv_icmp_eq (tgt := 435) hx hb dL_law_374 (by decide) (fun c374 => ?_) (fun c374 => ?_)
        · refine lv_iinc (v := nI (i + 5)) (lv' := [(3, .int (nI (i + 5))), (0, .ref b), (1, .ref a0), (2, .ref a1)]) hx hb dL_law_435 hl (k := 3) rfl (nI_add i 5) (by decide) rfl (fun ls hl => ?_)
          refine lv_goto (tgt := 18) hx hb dL_law_438 (by decide) ?_
          exact ih (i + 5) σ τ _ _ _ (by omega) (by omega) hI h0 h1 (lv_sub hl [1, 2, 3, 0] rfl)
        · exact absurd (qu_sim (xs (i + 1)) (fun c hc => (hI.2.2 c hc).2.2.2.1)) c374
      by_cases o9 : (xs i) &&& 15 = 9
      · refine lv_tableIn (tgt := 379) (off := 347) hx hb dL_law_32 (by rw [o9]; decide) (by rw [o9]; decide) (by rw [o9]; rfl) (by decide) ?_
        refine lv_aload_n hx hb dL_law_379 rfl (lv_at hl 1 rfl) ?_
        refine lv_aload_n hx hb dL_law_380 rfl (lv_at hl 0 rfl) ?_
        refine lv_iload_n hx hb dL_law_381 rfl (lv_at hl 3 rfl) ?_
        refine lv_iconst (v := nI 1) hx hb dL_law_382 (by decide) ?_
        refine lv_iadd hx hb dL_law_383 ?_
        refine x_top (y := nI (i + 1)) (nI_add i 1) ?_
        refine L_sld hx hb hX hbl hbA h0.2.2 hL (i + 1) (by omega) dL_law_384 ?_
        refine lv_aload_n hx hb dL_law_385 rfl (lv_at hl 0 rfl) ?_
        refine lv_iload_n hx hb dL_law_386 rfl (lv_at hl 3 rfl) ?_
        refine lv_iconst (v := nI 2) hx hb dL_law_387 (by decide) ?_
        refine lv_iadd hx hb dL_law_388 ?_
        refine x_top (y := nI (i + 2)) (nI_add i 2) ?_
        refine L_sld hx hb hX hbl hbA h0.2.2 hL (i + 2) (by omega) dL_law_389 ?_
        refine L_call0 (rest := []) 2 X hA h0 h1 hap (k0_alike l σ (xs (i + 1)) (xs (i + 2))) (lw_V q184 q185 q186 q22 q187) (by decide +kernel) rfl ⟨Nat.le_of_ble_eq_true rfl, Nat.le_of_ble_eq_true rfl⟩ hl.1 rfl (Nat.le_of_ble_eq_true rfl) dL_law_390 ⟨Nat.le_of_ble_eq_true rfl, Nat.le_of_ble_eq_true rfl⟩ (fun rq uq H locs hu h0 h1 => ?_)
        obtain ⟨er, hu⟩ := hu
        rw [hu] at h0
        rw [er]
        refine lv_aload_n hx hb dL_law_393 rfl (lv_at hl 2 rfl) ?_
        refine lv_aload_n hx hb dL_law_394 rfl (lv_at hl 0 rfl) ?_
        refine lv_iload_n hx hb dL_law_395 rfl (lv_at hl 3 rfl) ?_
        refine lv_iconst (v := nI 1) hx hb dL_law_396 (by decide) ?_
        refine lv_iadd hx hb dL_law_397 ?_
        refine x_top (y := nI (i + 1)) (nI_add i 1) ?_
        refine L_sld hx hb hX hbl hbA h0.2.2 hL (i + 1) (by omega) dL_law_398 ?_
        refine lv_aload_n hx hb dL_law_399 rfl (lv_at hl 0 rfl) ?_
        refine lv_iload_n hx hb dL_law_400 rfl (lv_at hl 3 rfl) ?_
        refine lv_iconst (v := nI 2) hx hb dL_law_401 (by decide) ?_
        refine lv_iadd hx hb dL_law_402 ?_
        refine x_top (y := nI (i + 2)) (nI_add i 2) ?_
        refine L_sld hx hb hX hbl hbA h0.2.2 hL (i + 2) (by omega) dL_law_403 ?_
        refine L_call1 (rest := [.int (al 7 8 σ (xs (i + 1)) (xs (i + 2)))]) 2 X hA h0 h1 hap (k1_alike l τ (xs (i + 1)) (xs (i + 2))) (lw_V q296 q297 q298 q23 q299) (by decide +kernel) rfl ⟨Nat.le_of_ble_eq_true rfl, Nat.le_of_ble_eq_true rfl⟩ hl.1 rfl (Nat.le_of_ble_eq_true rfl) dL_law_404 ⟨Nat.le_of_ble_eq_true rfl, Nat.le_of_ble_eq_true rfl⟩ (fun rq uq H locs hu h1 h0 => ?_)
        obtain ⟨er, hu⟩ := hu
        rw [hu] at h1
        rw [er]
        refine lv_icmp_eq (tgt := 435) hx hb dL_law_407 (by decide) (fun c407 => ?_) (fun c407 => ?_)
        · refine lv_iinc (v := nI (i + 5)) (lv' := [(3, .int (nI (i + 5))), (0, .ref b), (1, .ref a0), (2, .ref a1)]) hx hb dL_law_435 hl (k := 3) rfl (nI_add i 5) (by decide) rfl (fun ls hl => ?_)
          refine lv_goto (tgt := 18) hx hb dL_law_438 (by decide) ?_
          exact ih (i + 5) σ τ _ _ _ (by omega) (by omega) hI h0 h1 (lv_sub hl [1, 2, 3, 0] rfl)
        · exact absurd (al_sim (xs (i + 1)) (xs (i + 2)) hI) c407
      by_cases o10 : (xs i) &&& 15 = 10
      · refine lv_tableIn (tgt := 412) (off := 380) hx hb dL_law_32 (by rw [o10]; decide) (by rw [o10]; decide) (by rw [o10]; rfl) (by decide) ?_
        refine lv_aload_n hx hb dL_law_412 rfl (lv_at hl 1 rfl) ?_
        refine lv_aload_n hx hb dL_law_413 rfl (lv_at hl 0 rfl) ?_
        refine lv_iload_n hx hb dL_law_414 rfl (lv_at hl 3 rfl) ?_
        refine lv_iconst (v := nI 1) hx hb dL_law_415 (by decide) ?_
        refine lv_iadd hx hb dL_law_416 ?_
        refine x_top (y := nI (i + 1)) (nI_add i 1) ?_
        refine L_sld hx hb hX hbl hbA h0.2.2 hL (i + 1) (by omega) dL_law_417 ?_
        refine L_call0 (rest := []) 1 X hA h0 h1 hap (k0_steps l σ (xs (i + 1))) (lw_V q188 q189 q190 q22 q191) (by decide +kernel) rfl ⟨Nat.le_of_ble_eq_true rfl, Nat.le_of_ble_eq_true rfl⟩ hl.1 rfl (Nat.le_of_ble_eq_true rfl) dL_law_418 ⟨Nat.le_of_ble_eq_true rfl, Nat.le_of_ble_eq_true rfl⟩ (fun rq uq H locs hu h0 h1 => ?_)
        obtain ⟨er, hu⟩ := hu
        rw [hu] at h0
        rw [er]
        refine lv_aload_n hx hb dL_law_421 rfl (lv_at hl 2 rfl) ?_
        refine lv_aload_n hx hb dL_law_422 rfl (lv_at hl 0 rfl) ?_
        refine lv_iload_n hx hb dL_law_423 rfl (lv_at hl 3 rfl) ?_
        refine lv_iconst (v := nI 1) hx hb dL_law_424 (by decide) ?_
        refine lv_iadd hx hb dL_law_425 ?_
        refine x_top (y := nI (i + 1)) (nI_add i 1) ?_
        refine L_sld hx hb hX hbl hbA h0.2.2 hL (i + 1) (by omega) dL_law_426 ?_
        refine L_call1 (rest := [.int (qu 9 σ (xs (i + 1)))]) 1 X hA h0 h1 hap (k1_steps l τ (xs (i + 1))) (lw_V q300 q301 q302 q23 q303) (by decide +kernel) rfl ⟨Nat.le_of_ble_eq_true rfl, Nat.le_of_ble_eq_true rfl⟩ hl.1 rfl (Nat.le_of_ble_eq_true rfl) dL_law_427 ⟨Nat.le_of_ble_eq_true rfl, Nat.le_of_ble_eq_true rfl⟩ (fun rq uq H locs hu h1 h0 => ?_)
        obtain ⟨er, hu⟩ := hu
        rw [hu] at h1
        rw [er]
        refine lv_icmp_eq (tgt := 435) hx hb dL_law_430 (by decide) (fun c430 => ?_) (fun c430 => ?_)
        · refine lv_iinc (v := nI (i + 5)) (lv' := [(3, .int (nI (i + 5))), (0, .ref b), (1, .ref a0), (2, .ref a1)]) hx hb dL_law_435 hl (k := 3) rfl (nI_add i 5) (by decide) rfl (fun ls hl => ?_)
          refine lv_goto (tgt := 18) hx hb dL_law_438 (by decide) ?_
          exact ih (i + 5) σ τ _ _ _ (by omega) (by omega) hI h0 h1 (lv_sub hl [1, 2, 3, 0] rfl)
        · exact absurd (qu_sim (xs (i + 1)) (fun c hc => (hI.2.2 c hc).2.2.1)) c430
      have no0 := lv_neT o0 (show (0 : Int32).toInt = 0 by decide)
      have no1 := lv_neT o1 (show (1 : Int32).toInt = 1 by decide)
      have no2 := lv_neT o2 (show (2 : Int32).toInt = 2 by decide)
      have no3 := lv_neT o3 (show (3 : Int32).toInt = 3 by decide)
      have no4 := lv_neT o4 (show (4 : Int32).toInt = 4 by decide)
      have no5 := lv_neT o5 (show (5 : Int32).toInt = 5 by decide)
      have no6 := lv_neT o6 (show (6 : Int32).toInt = 6 by decide)
      have no7 := lv_neT o7 (show (7 : Int32).toInt = 7 by decide)
      have no8 := lv_neT o8 (show (8 : Int32).toInt = 8 by decide)
      have no9 := lv_neT o9 (show (9 : Int32).toInt = 9 by decide)
      have no10 := lv_neT o10 (show (10 : Int32).toInt = 10 by decide)
      refine lv_tableOut (tgt := 435) hx hb dL_law_32 (by omega) (by decide) ?_
      refine lv_iinc (v := nI (i + 5)) (lv' := [(3, .int (nI (i + 5))), (0, .ref b), (1, .ref a0), (2, .ref a1)]) hx hb dL_law_435 hl (k := 3) rfl (nI_add i 5) (by decide) rfl (fun ls hl => ?_)
      refine lv_goto (tgt := 18) hx hb dL_law_438 (by decide) ?_
      exact ih (i + 5) σ τ _ _ _ (by omega) (by omega) hI h0 h1 (lv_sub hl [1, 2, 3, 0] rfl)
end
section
set_option maxRecDepth 100000
theorem ad0_wc {a : Nat} {q : Nat → Nat} (d : ClassId) (σ : St) {x : Nat} (h : x ∈ ad0 a q) : ∃ (i : Nat) (e : va_E), (wc0 a q d σ)[i]? = some (x, e) := by
  unfold ad0 at h
  rcases List.mem_cons.mp h with e | e
  · exact ⟨0, _, by rw [e]; rfl⟩
  · obtain ⟨k, hk, e⟩ := List.mem_map.mp e
    obtain ⟨i, hi⟩ := List.getElem?_of_mem hk
    exact ⟨i + 1, _, by rw [← e]; exact wc0_arr hi⟩
theorem dfl0_ok : ∀ j, j < 17 → defaultValue (tyX0 j) = vp_V dfl0 j := by decide +kernel

theorem ad1_wc {a : Nat} {q : Nat → Nat} (d : ClassId) (σ : St) {x : Nat} (h : x ∈ ad1 a q) : ∃ (i : Nat) (e : va_E), (wc1 a q d σ)[i]? = some (x, e) := by
  unfold ad1 at h
  rcases List.mem_cons.mp h with e | e
  · exact ⟨0, _, by rw [e]; rfl⟩
  · obtain ⟨k, hk, e⟩ := List.mem_map.mp e
    obtain ⟨i, hi⟩ := List.getElem?_of_mem hk
    exact ⟨i + 1, _, by rw [← e]; exact wc1_arr hi⟩
theorem dfl1_ok : ∀ j, j < 12 → defaultValue (tyX1 j) = vp_V dfl1 j := by decide +kernel

theorem va_P_l {D : va_G} {cl : List vw_C} {w1 w2 : va_W} {H : Heap} (h : va_P D cl (w1 ++ w2) H) : va_P D cl w1 H := by
  intro k q hk
  have hl := (List.getElem?_eq_some_iff.mp hk).1
  exact h k q (by rw [List.getElem?_append_left hl]; exact hk)
theorem va_P_r {D : va_G} {cl : List vw_C} {w1 w2 : va_W} {H : Heap} (h : va_P D cl (w1 ++ w2) H) : va_P D cl w2 H := by
  intro k q hk
  refine h (w1.length + k) q ?_
  rw [List.getElem?_append_right (by omega), Nat.add_sub_cancel_left]
  exact hk
theorem va_D_l {A : Nat → Prop} {w1 w2 : va_W} (h : va_D A (w1 ++ w2)) : va_D A w1 := by
  have e : ∀ (k : Nat) (q : Nat × va_E), w1[k]? = some q → (w1 ++ w2)[k]? = some q := fun k q hk => by
    rw [List.getElem?_append_left (List.getElem?_eq_some_iff.mp hk).1]; exact hk
  exact ⟨fun i j p q hi hj hpq => h.1 i j p q (e i p hi) (e j q hj) hpq, fun k q hk => h.2 k q (e k q hk)⟩
theorem va_D_r {A : Nat → Prop} {w1 w2 : va_W} (h : va_D A (w1 ++ w2)) : va_D A w2 := by
  have e : ∀ (k : Nat) (q : Nat × va_E), w2[k]? = some q → (w1 ++ w2)[w1.length + k]? = some q := fun k q hk => by
    rw [List.getElem?_append_right (by omega), Nat.add_sub_cancel_left]; exact hk
  exact ⟨fun i j p q hi hj hpq => by have := h.1 _ _ p q (e i p hi) (e j q hj) hpq; omega, fun k q hk => h.2 _ q (e k q hk)⟩
theorem va_D_x {A : Nat → Prop} {w1 w2 : va_W} (h : va_D A (w1 ++ w2)) {i j : Nat} {p q : Nat × va_E} (hi : w1[i]? = some p) (hj : w2[j]? = some q) : p.1 ≠ q.1 := by
  intro e
  have hl := (List.getElem?_eq_some_iff.mp hi).1
  have := h.1 i (w1.length + j) p q (by rw [List.getElem?_append_left hl]; exact hi) (by rw [List.getElem?_append_right (by omega), Nat.add_sub_cancel_left]; exact hj) e
  omega
set_option maxHeartbeats 4000000 in
/-- YOUR PART: from the entry, for every script of at most 320 ints, the law comes to its end with true -/
theorem whole_start {p : Program} {e : Env} {s : State} {m : MethodId} {below : List Frame} {meth : Method} {c : Code} (l : Launch) {b L : Nat} {xs : Nat → Int32} (hL : L ≤ 320) (C0 : lw_At p s m meth c b L xs) : W p l e room_1 s m #[Value.ref b] below meth c s.heap [] 0 0 (lw_Z below #[Value.ref b] s) (entryFrame m ([Value.ref b] : List Value).toArray 4) := by
  obtain ⟨hx, hb, hr, hml, hown, hts0, hX, hbl, hlocks, hgv⟩ := C0
  have hts : ∀ w ∈ lw_all, w.before #[Value.ref b] s = true := fun w h => hts0 w (lw_all_tbl h)
  obtain ⟨dC, dI, hK0⟩ := L_classes hts
  obtain ⟨d, hK⟩ := d_known hK0 (hts _ q84)
  have X : cx R_law p s m #[Value.ref b] c cL_law 4 dC dI d := ⟨⟨hx, hb, hml, hown, hts⟩, hK⟩
  obtain ⟨A, hAe⟩ : ∃ A : Nat → Prop, A = fun q => s.heap.size ≤ q := ⟨_, rfl⟩
  have hA : ∀ q, s.heap.size ≤ q → A q := fun q h => by rw [hAe]; exact h
  have hA2 : ∀ q, A q → s.heap.size ≤ q := fun q h => by rw [hAe] at h; exact h
  have hbA : ¬ A b := fun h => by have := hA2 b h; omega
  have hS : va_S A s.heap s.heap [] := va_S.rf
  have hP : va_P (dC, dI) vwCl [] s.heap := fun k q h => by simp at h
  have hD : va_D A [] := ⟨fun i j p q h => by simp at h, fun k q h => by simp at h⟩
  have hl := lv_entry ([Value.ref b]) (n := 4) (Nat.le_of_ble_eq_true rfl)
  rw [lg_entry_eq]
  generalize (lg_sl ([Value.ref b]) ++ List.replicate (4 - (lg_sl ([Value.ref b])).length) Slot.unset).toArray = ls at hl ⊢
  have hl : lv_has ls 4 [(0, .ref b)] := hl
  refine va_new (D := (dC, dI)) (ci := 0) (fs := dfl0) (C := RX0) (T := TX0) (N := 17) hx hb hts in_X0 tyX0 tyX0_ok hown (hts _ q24) (hts _ q25) (hts _ q22) hK hP hD hS hA rfl dfl0_ok (Nat.le_of_ble_eq_true rfl) (Nat.le_of_ble_eq_true rfl) dL_law_0 (fun a0 H hP hD hS => ?_)
  have hP : va_P (dC, dI) vwCl [(a0, .inr (0, dfl0))] H := hP
  have hD : va_D A [(a0, .inr (0, dfl0))] := hD
  refine W.widen (k := 1) (n := 17) (Nat.le_of_ble_eq_true rfl) (Nat.le_of_ble_eq_true rfl) ?_
  refine lv_dup hx hb dL_law_3 rfl ?_
  have hFc := va_free (wc := [(a0, .inr (0, dfl0))]) hD hS hA [0] rfl
  refine va_callv (va_runI (As := []) (rest := [.ref a0]) X.1 (k0_init l dC dI a0 d H.size) (cwI 0 hts (lw_meth q28) rfl rfl rfl (hts _ q22) (hts _ q26) (hts _ q27) rfl (by decide +kernel) ⟨Nat.le_of_ble_eq_true rfl, Nat.le_of_ble_eq_true rfl⟩) ⟨fun a U g mk q => by obtain ⟨q0, q1, qP, qK, qD⟩ := q; exact ⟨q0, q1, qP, va_K.moved (u := U) (U := U.calling g mk a) (Vm.Alike.refl U.vm) qK, qD⟩, fun U hU hW => ⟨rfl, by rw [hU], by rw [hU]; exact hP, va_K.moved hW.alike hK, hD.weaken (fun _ _ _ _ => trivial)⟩⟩ rfl rfl hl.1 rfl (lv_room (Nat.le_of_ble_eq_true rfl)) dL_law_4 ⟨Nat.le_of_ble_eq_true rfl, Nat.le_of_ble_eq_true rfl⟩) hS (fun q _ h => hFc q h) hFc (fun q0 t H1 locs1 ht hvm _ hB hz hk hS => ?_)
  obtain ⟨hP1, -, hD1⟩ := hB
  rw [ht] at hP1
  have h0 : wd0 dC dI A s.heap a0 q0 d (fun _ _ => 0) H1 locs1 := ⟨hP1, hD1.weaken (fun k q _ h => hFc q.1 h), hS⟩
  refine W.widen (k := 15) (n := 259) (Nat.le_of_ble_eq_true rfl) (Nat.le_of_ble_eq_true rfl) ?_
  refine lv_astore_n (lv' := [(1, .ref a0), (0, .ref b)]) hx hb dL_law_7 rfl hl (by decide) rfl (fun ls hl => ?_)
  refine va_new (D := (dC, dI)) (ci := 1) (fs := dfl1) (C := RX1) (T := TX1) (N := 12) hx hb hts in_X1 tyX1 tyX1_ok hown (hts _ q192) (hts _ q193) (hts _ q23) hK h0.1 h0.2.1 h0.2.2 hA rfl dfl1_ok (Nat.le_of_ble_eq_true rfl) (Nat.le_of_ble_eq_true rfl) dL_law_8 (fun a1 H2 hP2 hD2 hS2 => ?_)
  refine W.widen (k := 16) (n := 271) (Nat.le_of_ble_eq_true rfl) (Nat.le_of_ble_eq_true rfl) ?_
  have hPa := va_P_l hP2
  have hPb := va_P_r hP2
  have hDa := va_D_l hD2
  have hDb := va_D_r hD2
  refine lv_dup hx hb dL_law_11 rfl ?_
  have hFb := va_free (wc := [(a1, .inr (1, dfl1))]) hDb hS2 hA [0] rfl
  refine va_callv (va_runI (As := []) (rest := [.ref a1]) X.1 (k1_init l dC dI a1 d H2.size) (cwI 0 hts (lw_meth q196) rfl rfl rfl (hts _ q23) (hts _ q194) (hts _ q195) rfl (by decide +kernel) ⟨Nat.le_of_ble_eq_true rfl, Nat.le_of_ble_eq_true rfl⟩) ⟨fun a U g mk q => by obtain ⟨q0, q1, qP, qK, qD⟩ := q; exact ⟨q0, q1, qP, va_K.moved (u := U) (U := U.calling g mk a) (Vm.Alike.refl U.vm) qK, qD⟩, fun U hU hW => ⟨rfl, by rw [hU], by rw [hU]; exact hPb, va_K.moved hW.alike hK, hDb.weaken (fun _ _ _ _ => trivial)⟩⟩ rfl rfl hl.1 rfl (lv_room (Nat.le_of_ble_eq_true rfl)) dL_law_12 ⟨Nat.le_of_ble_eq_true rfl, Nat.le_of_ble_eq_true rfl⟩) hS2 (fun q _ h => hFb q h) hFb (fun q1 t H3 locs3 ht hvm _ hB hz hk hS3 => ?_)
  obtain ⟨hP3, -, hD3⟩ := hB
  rw [ht] at hP3
  have hnot : ∀ (k : Nat) (x : Nat × va_E), (wc0 a0 q0 d (fun _ _ => 0))[k]? = some x → ¬ va_A [(a1, .inr (1, dfl1))] H2.size x.1 := by
    intro k x hx hv
    rcases hv with ⟨j, e', h⟩ | h
    · exact va_D_x hD2 hx h rfl
    · have := (hPa k x hx).lt
      omega
  have h0 : wd0 dC dI A s.heap a0 q0 d (fun _ _ => 0) H3 locs3 := ⟨hPa.kept (fun k x hx => hk x.1 (hPa k x hx).lt (hnot k x hx)), hDa, hS3⟩
  have h1 : wd1 dC dI A s.heap a1 q1 d (fun _ _ => 0) H3 locs3 := ⟨hP3, hD3.weaken (fun k q _ h => hFb q.1 h), hS3⟩
  have hap : apt a0 q0 a1 q1 := by
    intro x hx0 hx1
    obtain ⟨i, e0, h0'⟩ := ad0_wc d (fun _ _ => 0) hx0
    obtain ⟨j, e1, h1'⟩ := ad1_wc d (fun _ _ => 0) hx1
    have hv : va_A [(a1, .inr (1, dfl1))] H2.size x := hD3.2 j _ h1'
    exact hnot i _ h0' hv
  refine W.widen (k := 28) (n := 474) (Nat.le_of_ble_eq_true rfl) (Nat.le_of_ble_eq_true rfl) ?_
  refine lv_astore_n (lv' := [(2, .ref a1), (1, .ref a0), (0, .ref b)]) hx hb dL_law_15 rfl hl (by decide) rfl (fun ls hl => ?_)
  refine lv_iconst (v := nI 0) hx hb dL_law_16 (by decide) ?_
  refine lv_istore_n (lv' := [(3, .int (nI 0)), (2, .ref a1), (1, .ref a0), (0, .ref b)]) hx hb dL_law_17 rfl hl (by decide) rfl (fun ls hl => ?_)
  refine L_loop hL X hA hX hbl hbA hap (fun σ H locs ls hdg h0 => ?_) (L + 1) 0 _ _ _ _ _ (by omega) (by omega) inv_0 h0 h1 (lv_sub hl [3, 2, 1, 0] rfl)
  refine W.widen (k := 600000) (n := 7290000) (Nat.le_of_ble_eq_true rfl) (Nat.le_of_ble_eq_true rfl) ?_
  refine va_forget (fun q hq => hA2 _ (h0.2.2.2.2 q hq)) ?_
  exact lw_ret hx hb hr hlocks hdg
end
section
set_option maxRecDepth 100000
set_option maxHeartbeats 4000000 in
theorem lw_walk (l : Launch) (b : Addr) (xs : List Int32) : MetFree l x (headSpec (Jvm.Cond.code x code maxLocals ret :: tables_1) room_1) (lw_P b xs) (fun _ _ _ _ _ => True) lw_Q := by
  refine MetFree.of_bodyS (code := code) (maxLocals := maxLocals) (ret := ret) (by decide) ?_ ?_
  · intro args s m h hn
    obtain ⟨meth, c, h1, h2, h3, h4, h5, h6, -, -⟩ := Cond.code_spec hn (atoms_spec (ws := Jvm.Cond.code x code maxLocals ret :: tables_1) h _ List.mem_cons_self)
    exact ⟨meth, c, h1, h2, h3, h4, h5, h6⟩
  · intro p e s m args below meth c s₁ B hml0 hP _
    obtain ⟨rfl, hx, hbd, hgv⟩ := hP
    obtain ⟨scr, harrAt, hlist, hof, hsmall⟩ := hx
    obtain ⟨hcb, hkn, -, -⟩ := State.arrayAt?_spec harrAt
    have hown : s.vm.findClass R_law = some m.cls := findClass_of_methodNamed B.named
    have hts0 : ∀ c ∈ (Jvm.Cond.code x code maxLocals ret :: tables_1), c.before #[Value.ref b] s = true := atoms_spec (ws := Jvm.Cond.code x code maxLocals ret :: tables_1) B.pre
    have hts : ∀ w ∈ lw_tbl, w.before #[Value.ref b] s = true := k2_hts_sels lw_privs (fun w hw => hts0 w (List.mem_cons_of_mem _ hw)) lw_privs_ok
    have hml : c.maxLocals = 4 := B.maxLocals_eq (hts0 _ List.mem_cons_self)
    have X₀ : Stand p l e room_1 s m #[Value.ref b] below meth c s₁ [] 0 0 := Stand.of_body B
    have hh0 : s₁.heap = s.heap := by rw [B.state]; rfl
    have hsz : scr.slots.size = xs.length := by rw [← Array.length_toList, hlist, List.length_map]
    have hval : ∀ j : Nat, j < xs.length → scr.slots[j]? = some (.int (xs.getD j 0)) := fun j hj => by
      rw [← Array.getElem?_toList, hlist]
      simp [hj]
    have hbl : b < s.heap.size := (Array.getElem?_eq_some_iff.mp hcb).1
    have hX : va_X b xs.length (fun j => xs.getD j 0) s s.heap := ⟨scr, hcb, hof, hkn, hsz, hval⟩
    have K : W p l e room_1 s m #[Value.ref b] below meth c s₁.heap [] 0 0 (lw_Z below #[Value.ref b] s) (entryFrame m ([Value.ref b] : List Value).toArray 4) := by
      rw [hh0]
      exact whole_start l hbd ⟨B.exec, B.bytes, B.returns, hml, hown, hts, hX, hbl, B.notSynchronized, hgv⟩
    obtain ⟨t, a1, o, b1, b2, b3⟩ := K s₁ rfl X₀
    exact ⟨t, o, a1, b1, b2, b3⟩
theorem lw_pre_spec {args : Array Value} {s : State} (h : (Jvm.Cond.and given_1 narrow_1).before args s = true) (hr : rest_1_c.before args s = true) : ∃ (b : Addr) (xs : List Int32), lw_P b xs args s := by
  have hs := flat_of_before _ h
  have hq := flat_of_before _ hr
  have hc : (Cond.count 1).before args s = true := hs _ (by decide +kernel)
  have harr : (Cond.arrayOf (.arg 0) .int).before args s = true := hs _ (by decide +kernel)
  have hle : (Cond.le (.length (.arg 0)) (.int 320)).before args s = true := hs _ (by decide +kernel)
  have hlen : (Cond.isInt (.length (.arg 0))).before args s = true := hq _ (by decide +kernel)
  have hall : (Cond.all (.arg 0) (.isInt (.elem (.arg 0) (.index 0)))).before args s = true := hq _ (by decide +kernel)
  obtain ⟨b, xs, hb, hx⟩ := State.ints_of_pre rfl harr hlen hall
  have hsm : xs.length < 2 ^ 31 := hx.choose_spec.2.2.2
  have hev : (Term.length (.arg 0)).eval args s none [] s = some (.int xs.length.toInt32) := hx.length_eval hb
  have hv := Cond.le_ints hev (show (Term.int 320).eval args s none [] s = some (.int 320) from rfl)
  have hd : xs.length.toInt32 ≤ 320 := by
    simpa [Cond.before, Cond.holds, hv] using hle
  have hN : xs.length ≤ 320 := (Int32.ofNat_le_ofNat hsm (by decide)).mp (show Int32.ofNat xs.length ≤ Int32.ofNat 320 from hd)
  exact ⟨b, xs, Cond.one_arg hc (show args[0]? = some (.ref b) from hb), hx, hN, h⟩
theorem lw_comes (l : Launch) : Comes l x (Jvm.Cond.code x code maxLocals ret :: tables_1) room_1 (fun tb e args s => Calls_1 tb e args s ∧ rest_1 tb e args s ∧ Pre_1 tb e args s)
    (fun _ _ args s o t => lw_Q args s o t) := by
  intro p e ha hc hk s m args below hf hfit hheap happ hpre
  obtain ⟨b, xs, hP⟩ := lw_pre_spec hpre.2.2 hpre.2.1
  obtain ⟨k, o, h1, h2, h3, hQ⟩ := lw_walk l b xs p e ha hc hk s m args below hf ((Spec.applies_iff_loose hf).mp happ).1 hP trivial
  exact ⟨k, o, h1, h2, h3, hQ⟩
theorem lw_frame {s t : State} {o : Outcome} {args : Array Value} (h : Framed s o t [] 600000 7290000) :
    Framed s o t (fieldLocs frame_1_writes args s ++ arrayLocs frame_1_arrays args s ++ staticLocs frame_1_statics s) 600000 7290000 := h
theorem lw_limb (L : Cond) (hL : ∀ (args : Array Value) (s t : State), L.after args s (.returned (some (.int 1))) t = true) :
    ArmFor flags0 classFile x code maxLocals ret World_1 tables_1 room_1 Calls_1 rest_1 Pre_1
      (fun tb e a s o t => postC L tb e a s o t ∧ Framed s o t (fieldLocs frame_1_writes a s ++ arrayLocs frame_1_arrays a s ++ staticLocs frame_1_statics s) 600000 7290000) := by
  intro l _ _ _ p e ha hc hk s m args below hf hfit hheap happ hpre
  obtain ⟨k, o, h1, h2, h3, rfl, hF⟩ := lw_comes l p e ha hc hk s m args below hf hfit hheap happ hpre
  exact ⟨k, _, h1, h2, h3, hL args s _, lw_frame hF⟩
theorem i_vc : Claimed_1_1 ∧ Claimed_1_2 := ⟨lw_limb limb_1_1 (fun args s t => by simp [limb_1_1, Cond.after, Cond.holds, Cond.value]), lw_limb limb_1_2 (fun args s t => Cond.after_iff.mpr (by
  first | (rw [show limb_1_2 = Cond.eq .result (.int 1) from rfl, Cond.eq_ints (x := 1) (y := 1) rfl rfl]; simp; done) | (simp [limb_1_2, Cond.value, Term.eval]; done)))⟩
end
