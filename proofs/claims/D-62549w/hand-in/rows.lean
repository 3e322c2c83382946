section
-- ===== PART A: goes FIRST, ahead of the names: the tables' words, and 'selects' of the private methods out of them =====
/-- a private method of a class that the tables say can be made, by its rows of tables_1 -/
def lw_okq (q : MethodName × Nat) : Prop := (q.1.cls ≠ "java/lang/invoke/MethodHandle" ∧ q.1.cls ≠ "java/lang/invoke/VarHandle") ∧ Cond.instantiable q.1.cls q.2 ∈ tables_1 ∧ Cond.privateMethod q.1 ∈ tables_1 ∧ Cond.instanceMethod q.1 ∈ tables_1
set_option maxRecDepth 100000
theorem lw_t1 {w : Cond} (h : w ∈ tables_1_1) : w ∈ tables_1 := List.mem_append_left _ h
theorem lw_t2 {w : Cond} (h : w ∈ tables_1_2) : w ∈ tables_1 := List.mem_append_right _ h
theorem lw_p0 : lw_okq (⟨"ScheduleReducer", "countWays", "(Z)I"⟩, 22) := ⟨⟨by decide +kernel, by decide +kernel⟩, lw_t1 (List.mem_of_getElem? (i := 4) rfl), lw_t1 (List.mem_of_getElem? (i := 104) rfl), lw_t1 (List.mem_of_getElem? (i := 105) rfl)⟩
theorem lw_p1 : lw_okq (⟨"ScheduleReducer", "canTurn", "(IIII)Z"⟩, 22) := ⟨⟨by decide +kernel, by decide +kernel⟩, lw_t1 (List.mem_of_getElem? (i := 4) rfl), lw_t1 (List.mem_of_getElem? (i := 108) rfl), lw_t1 (List.mem_of_getElem? (i := 109) rfl)⟩
theorem lw_p2 : lw_okq (⟨"ScheduleReducer", "holds", "(III)Z"⟩, 22) := ⟨⟨by decide +kernel, by decide +kernel⟩, lw_t1 (List.mem_of_getElem? (i := 4) rfl), lw_t1 (List.mem_of_getElem? (i := 112) rfl), lw_t1 (List.mem_of_getElem? (i := 113) rfl)⟩
theorem lw_p3 : lw_okq (⟨"ScheduleReducer", "walkAll", "()V"⟩, 22) := ⟨⟨by decide +kernel, by decide +kernel⟩, lw_t1 (List.mem_of_getElem? (i := 4) rfl), lw_t1 (List.mem_of_getElem? (i := 123) rfl), lw_t1 (List.mem_of_getElem? (i := 124) rfl)⟩
theorem lw_p4 : lw_okq (⟨"ScheduleReducer", "walk", "()V"⟩, 22) := ⟨⟨by decide +kernel, by decide +kernel⟩, lw_t1 (List.mem_of_getElem? (i := 4) rfl), lw_t1 (List.mem_of_getElem? (i := 127) rfl), lw_t1 (List.mem_of_getElem? (i := 128) rfl)⟩
theorem lw_p5 : lw_okq (⟨"ScheduleReducer", "enabled", "(I)I"⟩, 22) := ⟨⟨by decide +kernel, by decide +kernel⟩, lw_t1 (List.mem_of_getElem? (i := 4) rfl), lw_t1 (List.mem_of_getElem? (i := 132) rfl), lw_t1 (List.mem_of_getElem? (i := 133) rfl)⟩
theorem lw_p6 : lw_okq (⟨"ScheduleReducer", "arrive", "(I)V"⟩, 22) := ⟨⟨by decide +kernel, by decide +kernel⟩, lw_t1 (List.mem_of_getElem? (i := 4) rfl), lw_t1 (List.mem_of_getElem? (i := 136) rfl), lw_t1 (List.mem_of_getElem? (i := 137) rfl)⟩
theorem lw_p7 : lw_okq (⟨"ScheduleReducer", "turn", "(II)V"⟩, 22) := ⟨⟨by decide +kernel, by decide +kernel⟩, lw_t1 (List.mem_of_getElem? (i := 4) rfl), lw_t1 (List.mem_of_getElem? (i := 143) rfl), lw_t1 (List.mem_of_getElem? (i := 144) rfl)⟩
theorem lw_p8 : lw_okq (⟨"ScheduleReducer", "carry", "(III)V"⟩, 22) := ⟨⟨by decide +kernel, by decide +kernel⟩, lw_t1 (List.mem_of_getElem? (i := 4) rfl), lw_t1 (List.mem_of_getElem? (i := 147) rfl), lw_t1 (List.mem_of_getElem? (i := 148) rfl)⟩
theorem lw_p9 : lw_okq (⟨"ScheduleReducer", "touch", "(II)Z"⟩, 22) := ⟨⟨by decide +kernel, by decide +kernel⟩, lw_t1 (List.mem_of_getElem? (i := 4) rfl), lw_t1 (List.mem_of_getElem? (i := 151) rfl), lw_t1 (List.mem_of_getElem? (i := 152) rfl)⟩
theorem lw_p10 : lw_okq (⟨"ScheduleReducerModel", "thread", "(I)Z"⟩, 10) := ⟨⟨by decide +kernel, by decide +kernel⟩, lw_t1 (List.mem_of_getElem? (i := 180) rfl), lw_t1 (List.mem_of_getElem? (i := 221) rfl), lw_t1 (List.mem_of_getElem? (i := 222) rfl)⟩
theorem lw_p11 : lw_okq (⟨"ScheduleReducerModel", "first", "()V"⟩, 10) := ⟨⟨by decide +kernel, by decide +kernel⟩, lw_t1 (List.mem_of_getElem? (i := 180) rfl), lw_t2 (List.mem_of_getElem? (i := 1) rfl), lw_t2 (List.mem_of_getElem? (i := 2) rfl)⟩
theorem lw_p12 : lw_okq (⟨"ScheduleReducerModel", "replay", "(I)V"⟩, 10) := ⟨⟨by decide +kernel, by decide +kernel⟩, lw_t1 (List.mem_of_getElem? (i := 180) rfl), lw_t2 (List.mem_of_getElem? (i := 5) rfl), lw_t2 (List.mem_of_getElem? (i := 6) rfl)⟩
theorem lw_p13 : lw_okq (⟨"ScheduleReducerModel", "carryOut", "(I)V"⟩, 10) := ⟨⟨by decide +kernel, by decide +kernel⟩, lw_t1 (List.mem_of_getElem? (i := 180) rfl), lw_t2 (List.mem_of_getElem? (i := 9) rfl), lw_t2 (List.mem_of_getElem? (i := 10) rfl)⟩
theorem lw_p14 : lw_okq (⟨"ScheduleReducerModel", "extend", "()V"⟩, 10) := ⟨⟨by decide +kernel, by decide +kernel⟩, lw_t1 (List.mem_of_getElem? (i := 180) rfl), lw_t2 (List.mem_of_getElem? (i := 13) rfl), lw_t2 (List.mem_of_getElem? (i := 14) rfl)⟩
theorem lw_p15 : lw_okq (⟨"ScheduleReducerModel", "can", "(I)Z"⟩, 10) := ⟨⟨by decide +kernel, by decide +kernel⟩, lw_t1 (List.mem_of_getElem? (i := 180) rfl), lw_t2 (List.mem_of_getElem? (i := 17) rfl), lw_t2 (List.mem_of_getElem? (i := 18) rfl)⟩
def lw_privs_1 : List (MethodName × Nat) := [(⟨"ScheduleReducer", "countWays", "(Z)I"⟩, 22), (⟨"ScheduleReducer", "canTurn", "(IIII)Z"⟩, 22), (⟨"ScheduleReducer", "holds", "(III)Z"⟩, 22), (⟨"ScheduleReducer", "walkAll", "()V"⟩, 22), (⟨"ScheduleReducer", "walk", "()V"⟩, 22), (⟨"ScheduleReducer", "enabled", "(I)I"⟩, 22), (⟨"ScheduleReducer", "arrive", "(I)V"⟩, 22), (⟨"ScheduleReducer", "turn", "(II)V"⟩, 22), (⟨"ScheduleReducer", "carry", "(III)V"⟩, 22), (⟨"ScheduleReducer", "touch", "(II)Z"⟩, 22), (⟨"ScheduleReducerModel", "thread", "(I)Z"⟩, 10), (⟨"ScheduleReducerModel", "first", "()V"⟩, 10), (⟨"ScheduleReducerModel", "replay", "(I)V"⟩, 10), (⟨"ScheduleReducerModel", "carryOut", "(I)V"⟩, 10), (⟨"ScheduleReducerModel", "extend", "()V"⟩, 10), (⟨"ScheduleReducerModel", "can", "(I)Z"⟩, 10)]
theorem lw_r1 : ∀ q ∈ lw_privs_1, lw_okq q := List.forall_mem_cons.mpr ⟨lw_p0, List.forall_mem_cons.mpr ⟨lw_p1, List.forall_mem_cons.mpr ⟨lw_p2, List.forall_mem_cons.mpr ⟨lw_p3, List.forall_mem_cons.mpr ⟨lw_p4, List.forall_mem_cons.mpr ⟨lw_p5, List.forall_mem_cons.mpr ⟨lw_p6, List.forall_mem_cons.mpr ⟨lw_p7, List.forall_mem_cons.mpr ⟨lw_p8, List.forall_mem_cons.mpr ⟨lw_p9, List.forall_mem_cons.mpr ⟨lw_p10, List.forall_mem_cons.mpr ⟨lw_p11, List.forall_mem_cons.mpr ⟨lw_p12, List.forall_mem_cons.mpr ⟨lw_p13, List.forall_mem_cons.mpr ⟨lw_p14, List.forall_mem_cons.mpr ⟨lw_p15, fun _ h => absurd h List.not_mem_nil⟩⟩⟩⟩⟩⟩⟩⟩⟩⟩⟩⟩⟩⟩⟩⟩
theorem lw_p16 : lw_okq (⟨"ScheduleReducerModel", "next", "()Z"⟩, 10) := ⟨⟨by decide +kernel, by decide +kernel⟩, lw_t1 (List.mem_of_getElem? (i := 180) rfl), lw_t2 (List.mem_of_getElem? (i := 22) rfl), lw_t2 (List.mem_of_getElem? (i := 23) rfl)⟩
theorem lw_p17 : lw_okq (⟨"ScheduleReducerModel", "settled", "()Z"⟩, 10) := ⟨⟨by decide +kernel, by decide +kernel⟩, lw_t1 (List.mem_of_getElem? (i := 180) rfl), lw_t2 (List.mem_of_getElem? (i := 30) rfl), lw_t2 (List.mem_of_getElem? (i := 31) rfl)⟩
theorem lw_p18 : lw_okq (⟨"ScheduleReducerModel", "touch", "(II)Z"⟩, 10) := ⟨⟨by decide +kernel, by decide +kernel⟩, lw_t1 (List.mem_of_getElem? (i := 180) rfl), lw_t2 (List.mem_of_getElem? (i := 34) rfl), lw_t2 (List.mem_of_getElem? (i := 35) rfl)⟩
theorem lw_p19 : lw_okq (⟨"ScheduleReducerModel", "end", "(II)I"⟩, 10) := ⟨⟨by decide +kernel, by decide +kernel⟩, lw_t1 (List.mem_of_getElem? (i := 180) rfl), lw_t2 (List.mem_of_getElem? (i := 55) rfl), lw_t2 (List.mem_of_getElem? (i := 56) rfl)⟩
def lw_privs_2 : List (MethodName × Nat) := [(⟨"ScheduleReducerModel", "next", "()Z"⟩, 10), (⟨"ScheduleReducerModel", "settled", "()Z"⟩, 10), (⟨"ScheduleReducerModel", "touch", "(II)Z"⟩, 10), (⟨"ScheduleReducerModel", "end", "(II)I"⟩, 10)]
theorem lw_r2 : ∀ q ∈ lw_privs_2, lw_okq q := List.forall_mem_cons.mpr ⟨lw_p16, List.forall_mem_cons.mpr ⟨lw_p17, List.forall_mem_cons.mpr ⟨lw_p18, List.forall_mem_cons.mpr ⟨lw_p19, fun _ h => absurd h List.not_mem_nil⟩⟩⟩⟩
def lw_privs : List (MethodName × Nat) := lw_privs_1 ++ (lw_privs_2)
def lw_tbl : List Cond := k2_sels lw_privs ++ tables_1
theorem lw_privs_ok : ∀ q ∈ lw_privs, lw_okq q := by
  show ∀ q ∈ lw_privs_1 ++ (lw_privs_2), lw_okq q
  exact List.forall_mem_append.mpr ⟨lw_r1, lw_r2⟩
-- ===== ONE list of words for every method: the tables' words that hold all through a run =====
def lw_all : List Cond := lw_tbl.filter goodWord
/-- a word of the tables by its place: claim/WORDS.tsv -/
theorem lw_w {w : Cond} (i : Nat) (h : lw_tbl[i]? = some w) (g : goodWord w = true) : w ∈ lw_all := List.mem_filter.mpr ⟨List.mem_of_getElem? h, g⟩
theorem lw_all_tbl {w : Cond} (h : w ∈ lw_all) : w ∈ lw_tbl := (List.mem_filter.mp h).1
theorem lw_self : GoodIn lw_all lw_all := fun w h => ⟨h, good_of_word (List.mem_filter.mp h).2⟩
/-- a class's field words, by their places -/
theorem lw_in (ws : List Cond) (ps : List Nat) (hp : ws = ps.filterMap (fun i => lw_tbl[i]?)) (hg : ws.all goodWord = true) : ∀ w ∈ ws, w ∈ lw_all := by
  intro w h
  have h1 := List.all_eq_true.mp hg w h
  rw [hp] at h
  obtain ⟨i, -, hi⟩ := List.mem_filterMap.mp h
  exact lw_w i hi h1
/-- the words of a contract for the method y with code b, L locals, answer r -/
abbrev ws_ (y : MethodName) (b : ByteArray) (L : Nat) (r : Option FieldType) : List Cond := Cond.code y b L r :: lw_all
theorem lw_meth {y : MethodName} {b : ByteArray} {L : Nat} {r : Option FieldType} (h : Cond.code y b L r ∈ lw_all) : GoodIn lw_all (ws_ y b L r) := by
  intro w hw
  rcases List.mem_cons.mp hw with e | e
  · rw [e]
    exact lw_self _ h
  · exact lw_self _ e
theorem lw_app {a c : List Cond} (ha : ∀ w ∈ a, w ∈ lw_all) (hc : GoodIn lw_all c) : GoodIn lw_all (a ++ c) := by
  intro w hw
  rcases List.mem_append.mp hw with e | e
  · exact lw_self w (ha w e)
  · exact hc w e
/-- what a call through an object asks: cwV n hts (lw_V ..) -/
theorem lw_V {own : String} {idx : Nat} {C : String} {y : MethodName} {b : ByteArray} {L : Nat} {r : Option FieldType} (h1 : Cond.methodLink own idx y ∈ lw_all) (h2 : Cond.instanceMethod y ∈ lw_all) (h3 : Cond.selects C y y ∈ lw_all) (h4 : Cond.initialized C ∈ lw_all) (h5 : Cond.code y b L r ∈ lw_all) : GoodIn lw_all (wsV own idx C y (ws_ y b L r)) := by
  refine lw_app ?_ (lw_meth h5)
  intro w hw
  simp only [List.mem_cons, List.not_mem_nil, or_false] at hw
  rcases hw with e | e | e | e
  · rw [e]; exact h1
  · rw [e]; exact h2
  · rw [e]; exact h3
  · rw [e]; exact h4
/-- what a static call asks: va_cwS n hts (lw_S ..) -/
theorem lw_S {own : String} {idx : Nat} {y : MethodName} {b : ByteArray} {L : Nat} {r : Option FieldType} (h1 : Cond.methodLink own idx y ∈ lw_all) (h2 : Cond.static y ∈ lw_all) (h3 : Cond.initialized y.cls ∈ lw_all) (h4 : Cond.code y b L r ∈ lw_all) : GoodIn lw_all (va_wsS own idx y (ws_ y b L r)) := by
  refine lw_app ?_ (lw_meth h4)
  intro w hw
  simp only [List.mem_cons, List.not_mem_nil, or_false] at hw
  rcases hw with e | e | e
  · rw [e]; exact h1
  · rw [e]; exact h2
  · rw [e]; exact h3
/-- the words of a contract for a method WITH HANDLERS (hh: its table) -/
abbrev wsW_ (y : MethodName) (b : ByteArray) (L : Nat) (r : Option FieldType) (hh : List (Nat × Nat × Nat × Nat)) : List Cond := Cond.codeWith y b L r hh :: lw_all
theorem lw_methW {y : MethodName} {b : ByteArray} {L : Nat} {r : Option FieldType} {hh : List (Nat × Nat × Nat × Nat)} (h : Cond.codeWith y b L r hh ∈ lw_all) : GoodIn lw_all (wsW_ y b L r hh) := by
  intro w hw
  rcases List.mem_cons.mp hw with e | e
  · rw [e]
    exact lw_self _ h
  · exact lw_self _ e
/-- any list of words by their places (lw_in), good -/
theorem lw_good {ws : List Cond} (h : ∀ w ∈ ws, w ∈ lw_all) : GoodIn lw_all ws := fun w hw => lw_self w (h w hw)
/-- what a call of a method with handlers asks: vx_cwVW n hts (lw_VW ..), vx_cwSW n hts (lw_SW ..) -/
theorem lw_VW {own : String} {idx : Nat} {C : String} {y : MethodName} {b : ByteArray} {L : Nat} {r : Option FieldType} {hh : List (Nat × Nat × Nat × Nat)} (h1 : Cond.methodLink own idx y ∈ lw_all) (h2 : Cond.instanceMethod y ∈ lw_all) (h3 : Cond.selects C y y ∈ lw_all) (h4 : Cond.initialized C ∈ lw_all) (h5 : Cond.codeWith y b L r hh ∈ lw_all) : GoodIn lw_all (wsV own idx C y (wsW_ y b L r hh)) := by
  refine lw_app ?_ (lw_methW h5)
  intro w hw
  simp only [List.mem_cons, List.not_mem_nil, or_false] at hw
  rcases hw with e | e | e | e
  · rw [e]; exact h1
  · rw [e]; exact h2
  · rw [e]; exact h3
  · rw [e]; exact h4
theorem lw_SW {own : String} {idx : Nat} {y : MethodName} {b : ByteArray} {L : Nat} {r : Option FieldType} {hh : List (Nat × Nat × Nat × Nat)} (h1 : Cond.methodLink own idx y ∈ lw_all) (h2 : Cond.static y ∈ lw_all) (h3 : Cond.initialized y.cls ∈ lw_all) (h4 : Cond.codeWith y b L r hh ∈ lw_all) : GoodIn lw_all (va_wsS own idx y (wsW_ y b L r hh)) := by
  refine lw_app ?_ (lw_methW h4)
  intro w hw
  simp only [List.mem_cons, List.not_mem_nil, or_false] at hw
  rcases hw with e | e | e
  · rw [e]; exact h1
  · rw [e]; exact h2
  · rw [e]; exact h3
/-- a word by its place in its run of the tables -/
theorem lw_at {r : List Cond} (hr : ∀ w ∈ r, w ∈ lw_tbl) {w : Cond} (i : Nat) (h : r[i]? = some w) : w ∈ lw_tbl := hr w (List.mem_of_getElem? h)
theorem lw_g {w : Cond} (h : w ∈ lw_tbl) (g : goodWord w = true) : w ∈ lw_all := List.mem_filter.mpr ⟨h, g⟩
theorem lw_ms : ∀ w ∈ k2_sels lw_privs, w ∈ lw_tbl := fun w h => show w ∈ k2_sels lw_privs ++ tables_1 from List.mem_append_left _ h
theorem lw_m1 : ∀ w ∈ tables_1_1, w ∈ lw_tbl := fun w h => show w ∈ k2_sels lw_privs ++ tables_1 from List.mem_append_right (k2_sels lw_privs) (show w ∈ tables_1 from List.mem_append_left _ h)
theorem lw_m2 : ∀ w ∈ tables_1_2, w ∈ lw_tbl := fun w h => show w ∈ k2_sels lw_privs ++ tables_1 from List.mem_append_right (k2_sels lw_privs) (show w ∈ tables_1 from List.mem_append_right _ h)
theorem qs0 : (Cond.selects "ScheduleReducer" ⟨"ScheduleReducer", "countWays", "(Z)I"⟩ ⟨"ScheduleReducer", "countWays", "(Z)I"⟩) ∈ lw_all := lw_g (lw_at lw_ms 0 rfl) rfl
theorem qs1 : (Cond.selects "ScheduleReducer" ⟨"ScheduleReducer", "canTurn", "(IIII)Z"⟩ ⟨"ScheduleReducer", "canTurn", "(IIII)Z"⟩) ∈ lw_all := lw_g (lw_at lw_ms 1 rfl) rfl
theorem qs2 : (Cond.selects "ScheduleReducer" ⟨"ScheduleReducer", "holds", "(III)Z"⟩ ⟨"ScheduleReducer", "holds", "(III)Z"⟩) ∈ lw_all := lw_g (lw_at lw_ms 2 rfl) rfl
theorem qs3 : (Cond.selects "ScheduleReducer" ⟨"ScheduleReducer", "walkAll", "()V"⟩ ⟨"ScheduleReducer", "walkAll", "()V"⟩) ∈ lw_all := lw_g (lw_at lw_ms 3 rfl) rfl
theorem qs4 : (Cond.selects "ScheduleReducer" ⟨"ScheduleReducer", "walk", "()V"⟩ ⟨"ScheduleReducer", "walk", "()V"⟩) ∈ lw_all := lw_g (lw_at lw_ms 4 rfl) rfl
theorem qs5 : (Cond.selects "ScheduleReducer" ⟨"ScheduleReducer", "enabled", "(I)I"⟩ ⟨"ScheduleReducer", "enabled", "(I)I"⟩) ∈ lw_all := lw_g (lw_at lw_ms 5 rfl) rfl
theorem qs6 : (Cond.selects "ScheduleReducer" ⟨"ScheduleReducer", "arrive", "(I)V"⟩ ⟨"ScheduleReducer", "arrive", "(I)V"⟩) ∈ lw_all := lw_g (lw_at lw_ms 6 rfl) rfl
theorem qs7 : (Cond.selects "ScheduleReducer" ⟨"ScheduleReducer", "turn", "(II)V"⟩ ⟨"ScheduleReducer", "turn", "(II)V"⟩) ∈ lw_all := lw_g (lw_at lw_ms 7 rfl) rfl
theorem qs8 : (Cond.selects "ScheduleReducer" ⟨"ScheduleReducer", "carry", "(III)V"⟩ ⟨"ScheduleReducer", "carry", "(III)V"⟩) ∈ lw_all := lw_g (lw_at lw_ms 8 rfl) rfl
theorem qs9 : (Cond.selects "ScheduleReducer" ⟨"ScheduleReducer", "touch", "(II)Z"⟩ ⟨"ScheduleReducer", "touch", "(II)Z"⟩) ∈ lw_all := lw_g (lw_at lw_ms 9 rfl) rfl
theorem qs10 : (Cond.selects "ScheduleReducerModel" ⟨"ScheduleReducerModel", "thread", "(I)Z"⟩ ⟨"ScheduleReducerModel", "thread", "(I)Z"⟩) ∈ lw_all := lw_g (lw_at lw_ms 10 rfl) rfl
theorem qs11 : (Cond.selects "ScheduleReducerModel" ⟨"ScheduleReducerModel", "first", "()V"⟩ ⟨"ScheduleReducerModel", "first", "()V"⟩) ∈ lw_all := lw_g (lw_at lw_ms 11 rfl) rfl
theorem qs12 : (Cond.selects "ScheduleReducerModel" ⟨"ScheduleReducerModel", "replay", "(I)V"⟩ ⟨"ScheduleReducerModel", "replay", "(I)V"⟩) ∈ lw_all := lw_g (lw_at lw_ms 12 rfl) rfl
theorem qs13 : (Cond.selects "ScheduleReducerModel" ⟨"ScheduleReducerModel", "carryOut", "(I)V"⟩ ⟨"ScheduleReducerModel", "carryOut", "(I)V"⟩) ∈ lw_all := lw_g (lw_at lw_ms 13 rfl) rfl
theorem qs14 : (Cond.selects "ScheduleReducerModel" ⟨"ScheduleReducerModel", "extend", "()V"⟩ ⟨"ScheduleReducerModel", "extend", "()V"⟩) ∈ lw_all := lw_g (lw_at lw_ms 14 rfl) rfl
theorem qs15 : (Cond.selects "ScheduleReducerModel" ⟨"ScheduleReducerModel", "can", "(I)Z"⟩ ⟨"ScheduleReducerModel", "can", "(I)Z"⟩) ∈ lw_all := lw_g (lw_at lw_ms 15 rfl) rfl
theorem qs16 : (Cond.selects "ScheduleReducerModel" ⟨"ScheduleReducerModel", "next", "()Z"⟩ ⟨"ScheduleReducerModel", "next", "()Z"⟩) ∈ lw_all := lw_g (lw_at lw_ms 16 rfl) rfl
theorem qs17 : (Cond.selects "ScheduleReducerModel" ⟨"ScheduleReducerModel", "settled", "()Z"⟩ ⟨"ScheduleReducerModel", "settled", "()Z"⟩) ∈ lw_all := lw_g (lw_at lw_ms 17 rfl) rfl
theorem qs18 : (Cond.selects "ScheduleReducerModel" ⟨"ScheduleReducerModel", "touch", "(II)Z"⟩ ⟨"ScheduleReducerModel", "touch", "(II)Z"⟩) ∈ lw_all := lw_g (lw_at lw_ms 18 rfl) rfl
theorem qs19 : (Cond.selects "ScheduleReducerModel" ⟨"ScheduleReducerModel", "end", "(II)I"⟩ ⟨"ScheduleReducerModel", "end", "(II)I"⟩) ∈ lw_all := lw_g (lw_at lw_ms 19 rfl) rfl
end
section
/-! java/lang/Object -/
set_option maxRecDepth 100000
def RJ0 : String := "java/lang/Object"
abbrev cJ0_init : ByteArray := object_method_1_code
def yJ0_init : MethodName := ⟨RJ0, "<init>", "()V"⟩
theorem q29 : (Jvm.Cond.instanceMethod ({ cls := "java/lang/Object", name := "<init>", desc := "()V" } : Jvm.MethodName)) ∈ lw_all := lw_g (lw_at lw_m1 9 rfl) rfl
theorem q30 : (Jvm.Cond.code ({ cls := "java/lang/Object", name := "<init>", desc := "()V" } : Jvm.MethodName) object_method_1_code (1 : Nat) (Option.none : Option Jvm.ClassFile.FieldType)) ∈ lw_all := lw_g (lw_at lw_m1 10 rfl) rfl

theorem q98 : (Jvm.Cond.arrayClass Jvm.ClassFile.FieldType.byte) ∈ lw_all := lw_g (lw_at lw_m1 78 rfl) rfl
set_option maxRecDepth 100000
theorem q99 : (Jvm.Cond.arrayClass Jvm.ClassFile.FieldType.int) ∈ lw_all := lw_g (lw_at lw_m1 79 rfl) rfl

theorem q20 : (Jvm.Cond.initialized "ScheduleReducerLaw") ∈ lw_all := lw_g (lw_at lw_m1 0 rfl) rfl
set_option maxRecDepth 100000
theorem q23 : (Jvm.Cond.classLink "ScheduleReducerLaw" (7 : Nat) "ScheduleReducer") ∈ lw_all := lw_g (lw_at lw_m1 3 rfl) rfl
theorem q25 : (Jvm.Cond.methodLink "ScheduleReducerLaw" (9 : Nat) ({ cls := "ScheduleReducer", name := "<init>", desc := "()V" } : Jvm.MethodName)) ∈ lw_all := lw_g (lw_at lw_m1 5 rfl) rfl
theorem q100 : (Jvm.Cond.methodLink "ScheduleReducerLaw" (13 : Nat) ({ cls := "ScheduleReducer", name := "step", desc := "(III)I" } : Jvm.MethodName)) ∈ lw_all := lw_g (lw_at lw_m1 80 rfl) rfl
theorem q107 : (Jvm.Cond.methodLink "ScheduleReducerLaw" (18 : Nat) ({ cls := "ScheduleReducer", name := "drop", desc := "(I)I" } : Jvm.MethodName)) ∈ lw_all := lw_g (lw_at lw_m1 87 rfl) rfl
theorem q111 : (Jvm.Cond.methodLink "ScheduleReducerLaw" (23 : Nat) ({ cls := "ScheduleReducer", name := "begin", desc := "(III)Z" } : Jvm.MethodName)) ∈ lw_all := lw_g (lw_at lw_m1 91 rfl) rfl
theorem q115 : (Jvm.Cond.methodLink "ScheduleReducerLaw" (28 : Nat) ({ cls := "ScheduleReducer", name := "length", desc := "(I)I" } : Jvm.MethodName)) ∈ lw_all := lw_g (lw_at lw_m1 95 rfl) rfl
theorem q119 : (Jvm.Cond.methodLink "ScheduleReducerLaw" (32 : Nat) ({ cls := "ScheduleReducer", name := "schedules", desc := "()I" } : Jvm.MethodName)) ∈ lw_all := lw_g (lw_at lw_m1 99 rfl) rfl
theorem q138 : (Jvm.Cond.methodLink "ScheduleReducerLaw" (37 : Nat) ({ cls := "ScheduleReducer", name := "classes", desc := "()I" } : Jvm.MethodName)) ∈ lw_all := lw_g (lw_at lw_m1 118 rfl) rfl
theorem q174 : (Jvm.Cond.methodLink "ScheduleReducerLaw" (41 : Nat) ({ cls := "ScheduleReducer", name := "canStick", desc := "()Z" } : Jvm.MethodName)) ∈ lw_all := lw_g (lw_at lw_m1 154 rfl) rfl
theorem q178 : (Jvm.Cond.methodLink "ScheduleReducerLaw" (46 : Nat) ({ cls := "ScheduleReducer", name := "canEnd", desc := "(II)Z" } : Jvm.MethodName)) ∈ lw_all := lw_g (lw_at lw_m1 158 rfl) rfl
theorem q186 : (Jvm.Cond.methodLink "ScheduleReducerLaw" (51 : Nat) ({ cls := "ScheduleReducer", name := "canEndBoth", desc := "(IIII)Z" } : Jvm.MethodName)) ∈ lw_all := lw_g (lw_at lw_m1 166 rfl) rfl
theorem q187 : (Jvm.Cond.methodLink "ScheduleReducerLaw" (56 : Nat) ({ cls := "ScheduleReducer", name := "extreme", desc := "(II)I" } : Jvm.MethodName)) ∈ lw_all := lw_g (lw_at lw_m1 167 rfl) rfl
theorem q191 : (Jvm.Cond.methodLink "ScheduleReducerLaw" (61 : Nat) ({ cls := "ScheduleReducer", name := "accumulator", desc := "(II)I" } : Jvm.MethodName)) ∈ lw_all := lw_g (lw_at lw_m1 171 rfl) rfl
theorem q195 : (Jvm.Cond.methodLink "ScheduleReducerLaw" (65 : Nat) ({ cls := "ScheduleReducer", name := "races", desc := "(I)Z" } : Jvm.MethodName)) ∈ lw_all := lw_g (lw_at lw_m1 175 rfl) rfl
theorem q199 : (Jvm.Cond.classLink "ScheduleReducerLaw" (10 : Nat) "ScheduleReducerModel") ∈ lw_all := lw_g (lw_at lw_m1 179 rfl) rfl
theorem q201 : (Jvm.Cond.methodLink "ScheduleReducerLaw" (12 : Nat) ({ cls := "ScheduleReducerModel", name := "<init>", desc := "()V" } : Jvm.MethodName)) ∈ lw_all := lw_g (lw_at lw_m1 181 rfl) rfl
theorem q236 : (Jvm.Cond.methodLink "ScheduleReducerLaw" (17 : Nat) ({ cls := "ScheduleReducerModel", name := "step", desc := "(III)I" } : Jvm.MethodName)) ∈ lw_all := lw_g (lw_at lw_m1 216 rfl) rfl
theorem q244 : (Jvm.Cond.methodLink "ScheduleReducerLaw" (22 : Nat) ({ cls := "ScheduleReducerModel", name := "drop", desc := "(I)I" } : Jvm.MethodName)) ∈ lw_all := lw_g (lw_at lw_m1 224 rfl) rfl
theorem q248 : (Jvm.Cond.methodLink "ScheduleReducerLaw" (27 : Nat) ({ cls := "ScheduleReducerModel", name := "begin", desc := "(III)Z" } : Jvm.MethodName)) ∈ lw_all := lw_g (lw_at lw_m1 228 rfl) rfl
theorem q252 : (Jvm.Cond.methodLink "ScheduleReducerLaw" (31 : Nat) ({ cls := "ScheduleReducerModel", name := "length", desc := "(I)I" } : Jvm.MethodName)) ∈ lw_all := lw_g (lw_at lw_m1 232 rfl) rfl
theorem q256 : (Jvm.Cond.methodLink "ScheduleReducerLaw" (36 : Nat) ({ cls := "ScheduleReducerModel", name := "schedules", desc := "()I" } : Jvm.MethodName)) ∈ lw_all := lw_g (lw_at lw_m1 236 rfl) rfl
theorem q285 : (Jvm.Cond.methodLink "ScheduleReducerLaw" (40 : Nat) ({ cls := "ScheduleReducerModel", name := "classes", desc := "()I" } : Jvm.MethodName)) ∈ lw_all := lw_g (lw_at lw_m2 25 rfl) rfl
theorem q297 : (Jvm.Cond.methodLink "ScheduleReducerLaw" (45 : Nat) ({ cls := "ScheduleReducerModel", name := "canStick", desc := "()Z" } : Jvm.MethodName)) ∈ lw_all := lw_g (lw_at lw_m2 37 rfl) rfl
theorem q301 : (Jvm.Cond.methodLink "ScheduleReducerLaw" (50 : Nat) ({ cls := "ScheduleReducerModel", name := "canEnd", desc := "(II)Z" } : Jvm.MethodName)) ∈ lw_all := lw_g (lw_at lw_m2 41 rfl) rfl
theorem q309 : (Jvm.Cond.methodLink "ScheduleReducerLaw" (55 : Nat) ({ cls := "ScheduleReducerModel", name := "canEndBoth", desc := "(IIII)Z" } : Jvm.MethodName)) ∈ lw_all := lw_g (lw_at lw_m2 49 rfl) rfl
theorem q310 : (Jvm.Cond.methodLink "ScheduleReducerLaw" (60 : Nat) ({ cls := "ScheduleReducerModel", name := "extreme", desc := "(II)I" } : Jvm.MethodName)) ∈ lw_all := lw_g (lw_at lw_m2 50 rfl) rfl
theorem q318 : (Jvm.Cond.methodLink "ScheduleReducerLaw" (64 : Nat) ({ cls := "ScheduleReducerModel", name := "accumulator", desc := "(II)I" } : Jvm.MethodName)) ∈ lw_all := lw_g (lw_at lw_m2 58 rfl) rfl
theorem q322 : (Jvm.Cond.methodLink "ScheduleReducerLaw" (69 : Nat) ({ cls := "ScheduleReducerModel", name := "races", desc := "(I)Z" } : Jvm.MethodName)) ∈ lw_all := lw_g (lw_at lw_m2 62 rfl) rfl

/-! ScheduleReducer -/
set_option maxRecDepth 100000
def RX0 : String := "ScheduleReducer"
def TX0 : u_T := fun k => match k with
  | 0 => ("ScheduleReducer", "sizes", "[B", true)
  | 1 => ("ScheduleReducer", "kinds", "[B", true)
  | 2 => ("ScheduleReducer", "numbers", "[I", true)
  | 3 => ("ScheduleReducer", "startVariable", "[I", true)
  | 4 => ("ScheduleReducer", "startAccumulator", "[I", true)
  | 5 => ("ScheduleReducer", "ways", "[I", true)
  | 6 => ("ScheduleReducer", "place", "[B", true)
  | 7 => ("ScheduleReducer", "accumulators", "[I", true)
  | 8 => ("ScheduleReducer", "variables", "[I", true)
  | 9 => ("ScheduleReducer", "sleeping", "[B", true)
  | 10 => ("ScheduleReducer", "hadTurn", "[B", true)
  | 11 => ("ScheduleReducer", "looking", "Z", false)
  | 12 => ("ScheduleReducer", "firstX", "I", false)
  | 13 => ("ScheduleReducer", "firstV", "I", false)
  | 14 => ("ScheduleReducer", "secondX", "I", false)
  | 15 => ("ScheduleReducer", "secondV", "I", false)
  | 16 => ("ScheduleReducer", "found", "Z", false)
  | 17 => ("ScheduleReducer", "classCount", "I", false)
  | 18 => ("ScheduleReducer", "leastVariable", "[I", true)
  | 19 => ("ScheduleReducer", "mostVariable", "[I", true)
  | 20 => ("ScheduleReducer", "leastAccumulator", "[I", true)
  | _ => ("ScheduleReducer", "mostAccumulator", "[I", true)
def tyX0 : Nat → FieldType := fun k => match k with
  | 0 => .array .byte
  | 1 => .array .byte
  | 2 => .array .int
  | 3 => .array .int
  | 4 => .array .int
  | 5 => .array .int
  | 6 => .array .byte
  | 7 => .array .int
  | 8 => .array .int
  | 9 => .array .byte
  | 10 => .array .byte
  | 11 => .boolean
  | 12 => .int
  | 13 => .int
  | 14 => .int
  | 15 => .int
  | 16 => .boolean
  | 17 => .int
  | 18 => .array .int
  | 19 => .array .int
  | 20 => .array .int
  | _ => .array .int
abbrev wsX00 : List Cond := u_ws RX0 TX0 22
set_option maxRecDepth 100000 in
theorem nmX0 : ∀ a, a < 22 → ∀ b, b < 22 → a ≠ b → (TX0 a).2.1 ≠ (TX0 b).2.1 := by decide +kernel
set_option maxRecDepth 100000 in
theorem tyX0_ok : ∀ k, k < 22 → parseFieldDescriptor (TX0 k).2.2.1 = some (tyX0 k) := by decide +kernel
abbrev cX0_init : ByteArray := prog_1_method_1_code
def yX0_init : MethodName := ⟨RX0, "<init>", "()V"⟩
abbrev cX0_step : ByteArray := prog_1_method_3_code
def yX0_step : MethodName := ⟨RX0, "step", "(III)I"⟩
abbrev cX0_isIndex : ByteArray := prog_1_method_2_code
def yX0_isIndex : MethodName := ⟨RX0, "isIndex", "(I)Z"⟩
abbrev cX0_drop : ByteArray := prog_1_method_4_code
def yX0_drop : MethodName := ⟨RX0, "drop", "(I)I"⟩
abbrev cX0_begin : ByteArray := prog_1_method_5_code
def yX0_begin : MethodName := ⟨RX0, "begin", "(III)Z"⟩
abbrev cX0_length : ByteArray := prog_1_method_6_code
def yX0_length : MethodName := ⟨RX0, "length", "(I)I"⟩
abbrev cX0_schedules : ByteArray := prog_1_method_12_code
def yX0_schedules : MethodName := ⟨RX0, "schedules", "()I"⟩
abbrev cX0_countWays : ByteArray := prog_1_method_10_code
def yX0_countWays : MethodName := ⟨RX0, "countWays", "(Z)I"⟩
abbrev cX0_canTurn : ByteArray := prog_1_method_8_code
def yX0_canTurn : MethodName := ⟨RX0, "canTurn", "(IIII)Z"⟩
abbrev cX0_holds : ByteArray := prog_1_method_7_code
def yX0_holds : MethodName := ⟨RX0, "holds", "(III)Z"⟩
abbrev cX0_stride : ByteArray := prog_1_method_11_code
def yX0_stride : MethodName := ⟨RX0, "stride", "(I)I"⟩
abbrev cX0_classes : ByteArray := prog_1_method_13_code
def yX0_classes : MethodName := ⟨RX0, "classes", "()I"⟩
abbrev cX0_walkAll : ByteArray := prog_1_method_20_code
def yX0_walkAll : MethodName := ⟨RX0, "walkAll", "()V"⟩
abbrev cX0_walk : ByteArray := prog_1_method_14_code
def yX0_walk : MethodName := ⟨RX0, "walk", "()V"⟩
abbrev cX0_enabled : ByteArray := prog_1_method_15_code
def yX0_enabled : MethodName := ⟨RX0, "enabled", "(I)I"⟩
abbrev cX0_arrive : ByteArray := prog_1_method_19_code
def yX0_arrive : MethodName := ⟨RX0, "arrive", "(I)V"⟩
abbrev cX0_nextThread : ByteArray := prog_1_method_16_code
def yX0_nextThread : MethodName := ⟨RX0, "nextThread", "(I)I"⟩
abbrev cX0_turn : ByteArray := prog_1_method_17_code
def yX0_turn : MethodName := ⟨RX0, "turn", "(II)V"⟩
abbrev cX0_carry : ByteArray := prog_1_method_18_code
def yX0_carry : MethodName := ⟨RX0, "carry", "(III)V"⟩
abbrev cX0_touch : ByteArray := prog_1_method_9_code
def yX0_touch : MethodName := ⟨RX0, "touch", "(II)Z"⟩
abbrev cX0_canStick : ByteArray := prog_1_method_21_code
def yX0_canStick : MethodName := ⟨RX0, "canStick", "()Z"⟩
abbrev cX0_canEnd : ByteArray := prog_1_method_22_code
def yX0_canEnd : MethodName := ⟨RX0, "canEnd", "(II)Z"⟩
abbrev cX0_canEndBoth : ByteArray := prog_1_method_23_code
def yX0_canEndBoth : MethodName := ⟨RX0, "canEndBoth", "(IIII)Z"⟩
abbrev cX0_extreme : ByteArray := prog_1_method_24_code
def yX0_extreme : MethodName := ⟨RX0, "extreme", "(II)I"⟩
abbrev cX0_accumulator : ByteArray := prog_1_method_25_code
def yX0_accumulator : MethodName := ⟨RX0, "accumulator", "(II)I"⟩
abbrev cX0_races : ByteArray := prog_1_method_26_code
def yX0_races : MethodName := ⟨RX0, "races", "(I)Z"⟩
theorem q21 : (Jvm.Cond.initialized "ScheduleReducer") ∈ lw_all := lw_g (lw_at lw_m1 1 rfl) rfl
theorem q24 : (Jvm.Cond.instantiable "ScheduleReducer" (22 : Nat)) ∈ lw_all := lw_g (lw_at lw_m1 4 rfl) rfl
theorem q26 : (Jvm.Cond.instanceMethod ({ cls := "ScheduleReducer", name := "<init>", desc := "()V" } : Jvm.MethodName)) ∈ lw_all := lw_g (lw_at lw_m1 6 rfl) rfl
theorem q27 : (Jvm.Cond.code ({ cls := "ScheduleReducer", name := "<init>", desc := "()V" } : Jvm.MethodName) prog_1_method_1_code (1 : Nat) (Option.none : Option Jvm.ClassFile.FieldType)) ∈ lw_all := lw_g (lw_at lw_m1 7 rfl) rfl
theorem q28 : (Jvm.Cond.methodLink "ScheduleReducer" (1 : Nat) ({ cls := "java/lang/Object", name := "<init>", desc := "()V" } : Jvm.MethodName)) ∈ lw_all := lw_g (lw_at lw_m1 8 rfl) rfl
theorem q31 : (Jvm.Cond.fieldLink "ScheduleReducer" (7 : Nat) "ScheduleReducer" "sizes" "[B") ∈ lw_all := lw_g (lw_at lw_m1 11 rfl) rfl
theorem q32 : (Jvm.Cond.fieldLink "ScheduleReducer" (13 : Nat) "ScheduleReducer" "kinds" "[B") ∈ lw_all := lw_g (lw_at lw_m1 12 rfl) rfl
theorem q33 : (Jvm.Cond.fieldLink "ScheduleReducer" (16 : Nat) "ScheduleReducer" "numbers" "[I") ∈ lw_all := lw_g (lw_at lw_m1 13 rfl) rfl
theorem q34 : (Jvm.Cond.fieldLink "ScheduleReducer" (20 : Nat) "ScheduleReducer" "startVariable" "[I") ∈ lw_all := lw_g (lw_at lw_m1 14 rfl) rfl
theorem q35 : (Jvm.Cond.fieldLink "ScheduleReducer" (23 : Nat) "ScheduleReducer" "startAccumulator" "[I") ∈ lw_all := lw_g (lw_at lw_m1 15 rfl) rfl
theorem q36 : (Jvm.Cond.fieldLink "ScheduleReducer" (26 : Nat) "ScheduleReducer" "ways" "[I") ∈ lw_all := lw_g (lw_at lw_m1 16 rfl) rfl
theorem q37 : (Jvm.Cond.fieldLink "ScheduleReducer" (29 : Nat) "ScheduleReducer" "place" "[B") ∈ lw_all := lw_g (lw_at lw_m1 17 rfl) rfl
theorem q38 : (Jvm.Cond.fieldLink "ScheduleReducer" (32 : Nat) "ScheduleReducer" "accumulators" "[I") ∈ lw_all := lw_g (lw_at lw_m1 18 rfl) rfl
theorem q39 : (Jvm.Cond.fieldLink "ScheduleReducer" (35 : Nat) "ScheduleReducer" "variables" "[I") ∈ lw_all := lw_g (lw_at lw_m1 19 rfl) rfl
theorem q40 : (Jvm.Cond.fieldLink "ScheduleReducer" (38 : Nat) "ScheduleReducer" "sleeping" "[B") ∈ lw_all := lw_g (lw_at lw_m1 20 rfl) rfl
theorem q41 : (Jvm.Cond.fieldLink "ScheduleReducer" (41 : Nat) "ScheduleReducer" "hadTurn" "[B") ∈ lw_all := lw_g (lw_at lw_m1 21 rfl) rfl
theorem q42 : (Jvm.Cond.fieldLink "ScheduleReducer" (88 : Nat) "ScheduleReducer" "looking" "Z") ∈ lw_all := lw_g (lw_at lw_m1 22 rfl) rfl
theorem q43 : (Jvm.Cond.fieldLink "ScheduleReducer" (113 : Nat) "ScheduleReducer" "firstX" "I") ∈ lw_all := lw_g (lw_at lw_m1 23 rfl) rfl
theorem q44 : (Jvm.Cond.fieldLink "ScheduleReducer" (116 : Nat) "ScheduleReducer" "firstV" "I") ∈ lw_all := lw_g (lw_at lw_m1 24 rfl) rfl
theorem q45 : (Jvm.Cond.fieldLink "ScheduleReducer" (119 : Nat) "ScheduleReducer" "secondX" "I") ∈ lw_all := lw_g (lw_at lw_m1 25 rfl) rfl
theorem q46 : (Jvm.Cond.fieldLink "ScheduleReducer" (122 : Nat) "ScheduleReducer" "secondV" "I") ∈ lw_all := lw_g (lw_at lw_m1 26 rfl) rfl
theorem q47 : (Jvm.Cond.fieldLink "ScheduleReducer" (83 : Nat) "ScheduleReducer" "found" "Z") ∈ lw_all := lw_g (lw_at lw_m1 27 rfl) rfl
theorem q48 : (Jvm.Cond.fieldLink "ScheduleReducer" (79 : Nat) "ScheduleReducer" "classCount" "I") ∈ lw_all := lw_g (lw_at lw_m1 28 rfl) rfl
theorem q49 : (Jvm.Cond.fieldLink "ScheduleReducer" (44 : Nat) "ScheduleReducer" "leastVariable" "[I") ∈ lw_all := lw_g (lw_at lw_m1 29 rfl) rfl
theorem q50 : (Jvm.Cond.fieldLink "ScheduleReducer" (47 : Nat) "ScheduleReducer" "mostVariable" "[I") ∈ lw_all := lw_g (lw_at lw_m1 30 rfl) rfl
theorem q51 : (Jvm.Cond.fieldLink "ScheduleReducer" (50 : Nat) "ScheduleReducer" "leastAccumulator" "[I") ∈ lw_all := lw_g (lw_at lw_m1 31 rfl) rfl
theorem q52 : (Jvm.Cond.fieldLink "ScheduleReducer" (53 : Nat) "ScheduleReducer" "mostAccumulator" "[I") ∈ lw_all := lw_g (lw_at lw_m1 32 rfl) rfl
theorem q53 : (Jvm.Cond.laysFinal "ScheduleReducer" "ScheduleReducer" "sizes" "[B") ∈ lw_all := lw_g (lw_at lw_m1 33 rfl) rfl
theorem q54 : (Jvm.Cond.soleField "ScheduleReducer" "sizes") ∈ lw_all := lw_g (lw_at lw_m1 34 rfl) rfl
theorem q55 : (Jvm.Cond.laysFinal "ScheduleReducer" "ScheduleReducer" "kinds" "[B") ∈ lw_all := lw_g (lw_at lw_m1 35 rfl) rfl
theorem q56 : (Jvm.Cond.soleField "ScheduleReducer" "kinds") ∈ lw_all := lw_g (lw_at lw_m1 36 rfl) rfl
theorem q57 : (Jvm.Cond.laysFinal "ScheduleReducer" "ScheduleReducer" "numbers" "[I") ∈ lw_all := lw_g (lw_at lw_m1 37 rfl) rfl
theorem q58 : (Jvm.Cond.soleField "ScheduleReducer" "numbers") ∈ lw_all := lw_g (lw_at lw_m1 38 rfl) rfl
theorem q59 : (Jvm.Cond.laysFinal "ScheduleReducer" "ScheduleReducer" "startVariable" "[I") ∈ lw_all := lw_g (lw_at lw_m1 39 rfl) rfl
theorem q60 : (Jvm.Cond.soleField "ScheduleReducer" "startVariable") ∈ lw_all := lw_g (lw_at lw_m1 40 rfl) rfl
theorem q61 : (Jvm.Cond.laysFinal "ScheduleReducer" "ScheduleReducer" "startAccumulator" "[I") ∈ lw_all := lw_g (lw_at lw_m1 41 rfl) rfl
theorem q62 : (Jvm.Cond.soleField "ScheduleReducer" "startAccumulator") ∈ lw_all := lw_g (lw_at lw_m1 42 rfl) rfl
theorem q63 : (Jvm.Cond.laysFinal "ScheduleReducer" "ScheduleReducer" "ways" "[I") ∈ lw_all := lw_g (lw_at lw_m1 43 rfl) rfl
theorem q64 : (Jvm.Cond.soleField "ScheduleReducer" "ways") ∈ lw_all := lw_g (lw_at lw_m1 44 rfl) rfl
theorem q65 : (Jvm.Cond.laysFinal "ScheduleReducer" "ScheduleReducer" "place" "[B") ∈ lw_all := lw_g (lw_at lw_m1 45 rfl) rfl
theorem q66 : (Jvm.Cond.soleField "ScheduleReducer" "place") ∈ lw_all := lw_g (lw_at lw_m1 46 rfl) rfl
theorem q67 : (Jvm.Cond.laysFinal "ScheduleReducer" "ScheduleReducer" "accumulators" "[I") ∈ lw_all := lw_g (lw_at lw_m1 47 rfl) rfl
theorem q68 : (Jvm.Cond.soleField "ScheduleReducer" "accumulators") ∈ lw_all := lw_g (lw_at lw_m1 48 rfl) rfl
theorem q69 : (Jvm.Cond.laysFinal "ScheduleReducer" "ScheduleReducer" "variables" "[I") ∈ lw_all := lw_g (lw_at lw_m1 49 rfl) rfl
theorem q70 : (Jvm.Cond.soleField "ScheduleReducer" "variables") ∈ lw_all := lw_g (lw_at lw_m1 50 rfl) rfl
theorem q71 : (Jvm.Cond.laysFinal "ScheduleReducer" "ScheduleReducer" "sleeping" "[B") ∈ lw_all := lw_g (lw_at lw_m1 51 rfl) rfl
theorem q72 : (Jvm.Cond.soleField "ScheduleReducer" "sleeping") ∈ lw_all := lw_g (lw_at lw_m1 52 rfl) rfl
theorem q73 : (Jvm.Cond.laysFinal "ScheduleReducer" "ScheduleReducer" "hadTurn" "[B") ∈ lw_all := lw_g (lw_at lw_m1 53 rfl) rfl
theorem q74 : (Jvm.Cond.soleField "ScheduleReducer" "hadTurn") ∈ lw_all := lw_g (lw_at lw_m1 54 rfl) rfl
theorem q75 : (Jvm.Cond.lays "ScheduleReducer" "ScheduleReducer" "looking" "Z") ∈ lw_all := lw_g (lw_at lw_m1 55 rfl) rfl
theorem q76 : (Jvm.Cond.soleField "ScheduleReducer" "looking") ∈ lw_all := lw_g (lw_at lw_m1 56 rfl) rfl
theorem q77 : (Jvm.Cond.lays "ScheduleReducer" "ScheduleReducer" "firstX" "I") ∈ lw_all := lw_g (lw_at lw_m1 57 rfl) rfl
theorem q78 : (Jvm.Cond.soleField "ScheduleReducer" "firstX") ∈ lw_all := lw_g (lw_at lw_m1 58 rfl) rfl
theorem q79 : (Jvm.Cond.lays "ScheduleReducer" "ScheduleReducer" "firstV" "I") ∈ lw_all := lw_g (lw_at lw_m1 59 rfl) rfl
theorem q80 : (Jvm.Cond.soleField "ScheduleReducer" "firstV") ∈ lw_all := lw_g (lw_at lw_m1 60 rfl) rfl
theorem q81 : (Jvm.Cond.lays "ScheduleReducer" "ScheduleReducer" "secondX" "I") ∈ lw_all := lw_g (lw_at lw_m1 61 rfl) rfl
theorem q82 : (Jvm.Cond.soleField "ScheduleReducer" "secondX") ∈ lw_all := lw_g (lw_at lw_m1 62 rfl) rfl
theorem q83 : (Jvm.Cond.lays "ScheduleReducer" "ScheduleReducer" "secondV" "I") ∈ lw_all := lw_g (lw_at lw_m1 63 rfl) rfl
theorem q84 : (Jvm.Cond.soleField "ScheduleReducer" "secondV") ∈ lw_all := lw_g (lw_at lw_m1 64 rfl) rfl
theorem q85 : (Jvm.Cond.lays "ScheduleReducer" "ScheduleReducer" "found" "Z") ∈ lw_all := lw_g (lw_at lw_m1 65 rfl) rfl
theorem q86 : (Jvm.Cond.soleField "ScheduleReducer" "found") ∈ lw_all := lw_g (lw_at lw_m1 66 rfl) rfl
theorem q87 : (Jvm.Cond.lays "ScheduleReducer" "ScheduleReducer" "classCount" "I") ∈ lw_all := lw_g (lw_at lw_m1 67 rfl) rfl
theorem q88 : (Jvm.Cond.soleField "ScheduleReducer" "classCount") ∈ lw_all := lw_g (lw_at lw_m1 68 rfl) rfl
theorem q89 : (Jvm.Cond.laysFinal "ScheduleReducer" "ScheduleReducer" "leastVariable" "[I") ∈ lw_all := lw_g (lw_at lw_m1 69 rfl) rfl
theorem q90 : (Jvm.Cond.soleField "ScheduleReducer" "leastVariable") ∈ lw_all := lw_g (lw_at lw_m1 70 rfl) rfl
theorem q91 : (Jvm.Cond.laysFinal "ScheduleReducer" "ScheduleReducer" "mostVariable" "[I") ∈ lw_all := lw_g (lw_at lw_m1 71 rfl) rfl
theorem q92 : (Jvm.Cond.soleField "ScheduleReducer" "mostVariable") ∈ lw_all := lw_g (lw_at lw_m1 72 rfl) rfl
theorem q93 : (Jvm.Cond.laysFinal "ScheduleReducer" "ScheduleReducer" "leastAccumulator" "[I") ∈ lw_all := lw_g (lw_at lw_m1 73 rfl) rfl
theorem q94 : (Jvm.Cond.soleField "ScheduleReducer" "leastAccumulator") ∈ lw_all := lw_g (lw_at lw_m1 74 rfl) rfl
theorem q95 : (Jvm.Cond.laysFinal "ScheduleReducer" "ScheduleReducer" "mostAccumulator" "[I") ∈ lw_all := lw_g (lw_at lw_m1 75 rfl) rfl
theorem q96 : (Jvm.Cond.soleField "ScheduleReducer" "mostAccumulator") ∈ lw_all := lw_g (lw_at lw_m1 76 rfl) rfl
theorem q97 : (Jvm.Cond.superclass "ScheduleReducer" "java/lang/Object") ∈ lw_all := lw_g (lw_at lw_m1 77 rfl) rfl
theorem q101 : (Jvm.Cond.instanceMethod ({ cls := "ScheduleReducer", name := "step", desc := "(III)I" } : Jvm.MethodName)) ∈ lw_all := lw_g (lw_at lw_m1 81 rfl) rfl
theorem q102 : (Jvm.Cond.selects "ScheduleReducer" ({ cls := "ScheduleReducer", name := "step", desc := "(III)I" } : Jvm.MethodName) ({ cls := "ScheduleReducer", name := "step", desc := "(III)I" } : Jvm.MethodName)) ∈ lw_all := lw_g (lw_at lw_m1 82 rfl) rfl
theorem q103 : (Jvm.Cond.code ({ cls := "ScheduleReducer", name := "step", desc := "(III)I" } : Jvm.MethodName) prog_1_method_3_code (6 : Nat) (Option.some Jvm.ClassFile.FieldType.int)) ∈ lw_all := lw_g (lw_at lw_m1 83 rfl) rfl
theorem q104 : (Jvm.Cond.methodLink "ScheduleReducer" (56 : Nat) ({ cls := "ScheduleReducer", name := "isIndex", desc := "(I)Z" } : Jvm.MethodName)) ∈ lw_all := lw_g (lw_at lw_m1 84 rfl) rfl
theorem q105 : (Jvm.Cond.static ({ cls := "ScheduleReducer", name := "isIndex", desc := "(I)Z" } : Jvm.MethodName)) ∈ lw_all := lw_g (lw_at lw_m1 85 rfl) rfl
theorem q106 : (Jvm.Cond.code ({ cls := "ScheduleReducer", name := "isIndex", desc := "(I)Z" } : Jvm.MethodName) prog_1_method_2_code (1 : Nat) (Option.some Jvm.ClassFile.FieldType.boolean)) ∈ lw_all := lw_g (lw_at lw_m1 86 rfl) rfl
theorem q108 : (Jvm.Cond.instanceMethod ({ cls := "ScheduleReducer", name := "drop", desc := "(I)I" } : Jvm.MethodName)) ∈ lw_all := lw_g (lw_at lw_m1 88 rfl) rfl
theorem q109 : (Jvm.Cond.selects "ScheduleReducer" ({ cls := "ScheduleReducer", name := "drop", desc := "(I)I" } : Jvm.MethodName) ({ cls := "ScheduleReducer", name := "drop", desc := "(I)I" } : Jvm.MethodName)) ∈ lw_all := lw_g (lw_at lw_m1 89 rfl) rfl
theorem q110 : (Jvm.Cond.code ({ cls := "ScheduleReducer", name := "drop", desc := "(I)I" } : Jvm.MethodName) prog_1_method_4_code (2 : Nat) (Option.some Jvm.ClassFile.FieldType.int)) ∈ lw_all := lw_g (lw_at lw_m1 90 rfl) rfl
theorem q112 : (Jvm.Cond.instanceMethod ({ cls := "ScheduleReducer", name := "begin", desc := "(III)Z" } : Jvm.MethodName)) ∈ lw_all := lw_g (lw_at lw_m1 92 rfl) rfl
theorem q113 : (Jvm.Cond.selects "ScheduleReducer" ({ cls := "ScheduleReducer", name := "begin", desc := "(III)Z" } : Jvm.MethodName) ({ cls := "ScheduleReducer", name := "begin", desc := "(III)Z" } : Jvm.MethodName)) ∈ lw_all := lw_g (lw_at lw_m1 93 rfl) rfl
theorem q114 : (Jvm.Cond.code ({ cls := "ScheduleReducer", name := "begin", desc := "(III)Z" } : Jvm.MethodName) prog_1_method_5_code (4 : Nat) (Option.some Jvm.ClassFile.FieldType.boolean)) ∈ lw_all := lw_g (lw_at lw_m1 94 rfl) rfl
theorem q116 : (Jvm.Cond.instanceMethod ({ cls := "ScheduleReducer", name := "length", desc := "(I)I" } : Jvm.MethodName)) ∈ lw_all := lw_g (lw_at lw_m1 96 rfl) rfl
theorem q117 : (Jvm.Cond.selects "ScheduleReducer" ({ cls := "ScheduleReducer", name := "length", desc := "(I)I" } : Jvm.MethodName) ({ cls := "ScheduleReducer", name := "length", desc := "(I)I" } : Jvm.MethodName)) ∈ lw_all := lw_g (lw_at lw_m1 97 rfl) rfl
theorem q118 : (Jvm.Cond.code ({ cls := "ScheduleReducer", name := "length", desc := "(I)I" } : Jvm.MethodName) prog_1_method_6_code (2 : Nat) (Option.some Jvm.ClassFile.FieldType.int)) ∈ lw_all := lw_g (lw_at lw_m1 98 rfl) rfl
theorem q120 : (Jvm.Cond.instanceMethod ({ cls := "ScheduleReducer", name := "schedules", desc := "()I" } : Jvm.MethodName)) ∈ lw_all := lw_g (lw_at lw_m1 100 rfl) rfl
theorem q121 : (Jvm.Cond.selects "ScheduleReducer" ({ cls := "ScheduleReducer", name := "schedules", desc := "()I" } : Jvm.MethodName) ({ cls := "ScheduleReducer", name := "schedules", desc := "()I" } : Jvm.MethodName)) ∈ lw_all := lw_g (lw_at lw_m1 101 rfl) rfl
theorem q122 : (Jvm.Cond.code ({ cls := "ScheduleReducer", name := "schedules", desc := "()I" } : Jvm.MethodName) prog_1_method_12_code (1 : Nat) (Option.some Jvm.ClassFile.FieldType.int)) ∈ lw_all := lw_g (lw_at lw_m1 102 rfl) rfl
theorem q123 : (Jvm.Cond.methodLink "ScheduleReducer" (72 : Nat) ({ cls := "ScheduleReducer", name := "countWays", desc := "(Z)I" } : Jvm.MethodName)) ∈ lw_all := lw_g (lw_at lw_m1 103 rfl) rfl
theorem q124 : (Jvm.Cond.privateMethod ({ cls := "ScheduleReducer", name := "countWays", desc := "(Z)I" } : Jvm.MethodName)) ∈ lw_tbl := lw_at lw_m1 104 rfl
theorem q125 : (Jvm.Cond.instanceMethod ({ cls := "ScheduleReducer", name := "countWays", desc := "(Z)I" } : Jvm.MethodName)) ∈ lw_all := lw_g (lw_at lw_m1 105 rfl) rfl
theorem q126 : (Jvm.Cond.code ({ cls := "ScheduleReducer", name := "countWays", desc := "(Z)I" } : Jvm.MethodName) prog_1_method_10_code (9 : Nat) (Option.some Jvm.ClassFile.FieldType.int)) ∈ lw_all := lw_g (lw_at lw_m1 106 rfl) rfl
theorem q127 : (Jvm.Cond.methodLink "ScheduleReducer" (64 : Nat) ({ cls := "ScheduleReducer", name := "canTurn", desc := "(IIII)Z" } : Jvm.MethodName)) ∈ lw_all := lw_g (lw_at lw_m1 107 rfl) rfl
theorem q128 : (Jvm.Cond.privateMethod ({ cls := "ScheduleReducer", name := "canTurn", desc := "(IIII)Z" } : Jvm.MethodName)) ∈ lw_tbl := lw_at lw_m1 108 rfl
theorem q129 : (Jvm.Cond.instanceMethod ({ cls := "ScheduleReducer", name := "canTurn", desc := "(IIII)Z" } : Jvm.MethodName)) ∈ lw_all := lw_g (lw_at lw_m1 109 rfl) rfl
theorem q130 : (Jvm.Cond.code ({ cls := "ScheduleReducer", name := "canTurn", desc := "(IIII)Z" } : Jvm.MethodName) prog_1_method_8_code (8 : Nat) (Option.some Jvm.ClassFile.FieldType.boolean)) ∈ lw_all := lw_g (lw_at lw_m1 110 rfl) rfl
theorem q131 : (Jvm.Cond.methodLink "ScheduleReducer" (60 : Nat) ({ cls := "ScheduleReducer", name := "holds", desc := "(III)Z" } : Jvm.MethodName)) ∈ lw_all := lw_g (lw_at lw_m1 111 rfl) rfl
theorem q132 : (Jvm.Cond.privateMethod ({ cls := "ScheduleReducer", name := "holds", desc := "(III)Z" } : Jvm.MethodName)) ∈ lw_tbl := lw_at lw_m1 112 rfl
theorem q133 : (Jvm.Cond.instanceMethod ({ cls := "ScheduleReducer", name := "holds", desc := "(III)Z" } : Jvm.MethodName)) ∈ lw_all := lw_g (lw_at lw_m1 113 rfl) rfl
theorem q134 : (Jvm.Cond.code ({ cls := "ScheduleReducer", name := "holds", desc := "(III)Z" } : Jvm.MethodName) prog_1_method_7_code (7 : Nat) (Option.some Jvm.ClassFile.FieldType.boolean)) ∈ lw_all := lw_g (lw_at lw_m1 114 rfl) rfl
theorem q135 : (Jvm.Cond.methodLink "ScheduleReducer" (68 : Nat) ({ cls := "ScheduleReducer", name := "stride", desc := "(I)I" } : Jvm.MethodName)) ∈ lw_all := lw_g (lw_at lw_m1 115 rfl) rfl
theorem q136 : (Jvm.Cond.static ({ cls := "ScheduleReducer", name := "stride", desc := "(I)I" } : Jvm.MethodName)) ∈ lw_all := lw_g (lw_at lw_m1 116 rfl) rfl
theorem q137 : (Jvm.Cond.code ({ cls := "ScheduleReducer", name := "stride", desc := "(I)I" } : Jvm.MethodName) prog_1_method_11_code (1 : Nat) (Option.some Jvm.ClassFile.FieldType.int)) ∈ lw_all := lw_g (lw_at lw_m1 117 rfl) rfl
theorem q139 : (Jvm.Cond.instanceMethod ({ cls := "ScheduleReducer", name := "classes", desc := "()I" } : Jvm.MethodName)) ∈ lw_all := lw_g (lw_at lw_m1 119 rfl) rfl
theorem q140 : (Jvm.Cond.selects "ScheduleReducer" ({ cls := "ScheduleReducer", name := "classes", desc := "()I" } : Jvm.MethodName) ({ cls := "ScheduleReducer", name := "classes", desc := "()I" } : Jvm.MethodName)) ∈ lw_all := lw_g (lw_at lw_m1 120 rfl) rfl
theorem q141 : (Jvm.Cond.code ({ cls := "ScheduleReducer", name := "classes", desc := "()I" } : Jvm.MethodName) prog_1_method_13_code (1 : Nat) (Option.some Jvm.ClassFile.FieldType.int)) ∈ lw_all := lw_g (lw_at lw_m1 121 rfl) rfl
theorem q142 : (Jvm.Cond.methodLink "ScheduleReducer" (76 : Nat) ({ cls := "ScheduleReducer", name := "walkAll", desc := "()V" } : Jvm.MethodName)) ∈ lw_all := lw_g (lw_at lw_m1 122 rfl) rfl
theorem q143 : (Jvm.Cond.privateMethod ({ cls := "ScheduleReducer", name := "walkAll", desc := "()V" } : Jvm.MethodName)) ∈ lw_tbl := lw_at lw_m1 123 rfl
theorem q144 : (Jvm.Cond.instanceMethod ({ cls := "ScheduleReducer", name := "walkAll", desc := "()V" } : Jvm.MethodName)) ∈ lw_all := lw_g (lw_at lw_m1 124 rfl) rfl
theorem q145 : (Jvm.Cond.code ({ cls := "ScheduleReducer", name := "walkAll", desc := "()V" } : Jvm.MethodName) prog_1_method_20_code (1 : Nat) (Option.none : Option Jvm.ClassFile.FieldType)) ∈ lw_all := lw_g (lw_at lw_m1 125 rfl) rfl
theorem q146 : (Jvm.Cond.methodLink "ScheduleReducer" (125 : Nat) ({ cls := "ScheduleReducer", name := "walk", desc := "()V" } : Jvm.MethodName)) ∈ lw_all := lw_g (lw_at lw_m1 126 rfl) rfl
theorem q147 : (Jvm.Cond.privateMethod ({ cls := "ScheduleReducer", name := "walk", desc := "()V" } : Jvm.MethodName)) ∈ lw_tbl := lw_at lw_m1 127 rfl
theorem q148 : (Jvm.Cond.instanceMethod ({ cls := "ScheduleReducer", name := "walk", desc := "()V" } : Jvm.MethodName)) ∈ lw_all := lw_g (lw_at lw_m1 128 rfl) rfl
theorem q149 : (Jvm.Cond.code ({ cls := "ScheduleReducer", name := "walk", desc := "()V" } : Jvm.MethodName) prog_1_method_14_code (5 : Nat) (Option.none : Option Jvm.ClassFile.FieldType)) ∈ lw_all := lw_g (lw_at lw_m1 129 rfl) rfl
theorem q150 : (Jvm.Cond.constant "ScheduleReducer" (87 : Nat) (2097152 : Int32)) ∈ lw_all := lw_g (lw_at lw_m1 130 rfl) rfl
theorem q151 : (Jvm.Cond.methodLink "ScheduleReducer" (91 : Nat) ({ cls := "ScheduleReducer", name := "enabled", desc := "(I)I" } : Jvm.MethodName)) ∈ lw_all := lw_g (lw_at lw_m1 131 rfl) rfl
theorem q152 : (Jvm.Cond.privateMethod ({ cls := "ScheduleReducer", name := "enabled", desc := "(I)I" } : Jvm.MethodName)) ∈ lw_tbl := lw_at lw_m1 132 rfl
theorem q153 : (Jvm.Cond.instanceMethod ({ cls := "ScheduleReducer", name := "enabled", desc := "(I)I" } : Jvm.MethodName)) ∈ lw_all := lw_g (lw_at lw_m1 133 rfl) rfl
theorem q154 : (Jvm.Cond.code ({ cls := "ScheduleReducer", name := "enabled", desc := "(I)I" } : Jvm.MethodName) prog_1_method_15_code (4 : Nat) (Option.some Jvm.ClassFile.FieldType.int)) ∈ lw_all := lw_g (lw_at lw_m1 134 rfl) rfl
theorem q155 : (Jvm.Cond.methodLink "ScheduleReducer" (94 : Nat) ({ cls := "ScheduleReducer", name := "arrive", desc := "(I)V" } : Jvm.MethodName)) ∈ lw_all := lw_g (lw_at lw_m1 135 rfl) rfl
theorem q156 : (Jvm.Cond.privateMethod ({ cls := "ScheduleReducer", name := "arrive", desc := "(I)V" } : Jvm.MethodName)) ∈ lw_tbl := lw_at lw_m1 136 rfl
theorem q157 : (Jvm.Cond.instanceMethod ({ cls := "ScheduleReducer", name := "arrive", desc := "(I)V" } : Jvm.MethodName)) ∈ lw_all := lw_g (lw_at lw_m1 137 rfl) rfl
theorem q158 : (Jvm.Cond.code ({ cls := "ScheduleReducer", name := "arrive", desc := "(I)V" } : Jvm.MethodName) prog_1_method_19_code (7 : Nat) (Option.none : Option Jvm.ClassFile.FieldType)) ∈ lw_all := lw_g (lw_at lw_m1 138 rfl) rfl
theorem q159 : (Jvm.Cond.methodLink "ScheduleReducer" (98 : Nat) ({ cls := "ScheduleReducer", name := "nextThread", desc := "(I)I" } : Jvm.MethodName)) ∈ lw_all := lw_g (lw_at lw_m1 139 rfl) rfl
theorem q160 : (Jvm.Cond.static ({ cls := "ScheduleReducer", name := "nextThread", desc := "(I)I" } : Jvm.MethodName)) ∈ lw_all := lw_g (lw_at lw_m1 140 rfl) rfl
theorem q161 : (Jvm.Cond.code ({ cls := "ScheduleReducer", name := "nextThread", desc := "(I)I" } : Jvm.MethodName) prog_1_method_16_code (2 : Nat) (Option.some Jvm.ClassFile.FieldType.int)) ∈ lw_all := lw_g (lw_at lw_m1 141 rfl) rfl
theorem q162 : (Jvm.Cond.methodLink "ScheduleReducer" (101 : Nat) ({ cls := "ScheduleReducer", name := "turn", desc := "(II)V" } : Jvm.MethodName)) ∈ lw_all := lw_g (lw_at lw_m1 142 rfl) rfl
theorem q163 : (Jvm.Cond.privateMethod ({ cls := "ScheduleReducer", name := "turn", desc := "(II)V" } : Jvm.MethodName)) ∈ lw_tbl := lw_at lw_m1 143 rfl
theorem q164 : (Jvm.Cond.instanceMethod ({ cls := "ScheduleReducer", name := "turn", desc := "(II)V" } : Jvm.MethodName)) ∈ lw_all := lw_g (lw_at lw_m1 144 rfl) rfl
theorem q165 : (Jvm.Cond.code ({ cls := "ScheduleReducer", name := "turn", desc := "(II)V" } : Jvm.MethodName) prog_1_method_17_code (9 : Nat) (Option.none : Option Jvm.ClassFile.FieldType)) ∈ lw_all := lw_g (lw_at lw_m1 145 rfl) rfl
theorem q166 : (Jvm.Cond.methodLink "ScheduleReducer" (105 : Nat) ({ cls := "ScheduleReducer", name := "carry", desc := "(III)V" } : Jvm.MethodName)) ∈ lw_all := lw_g (lw_at lw_m1 146 rfl) rfl
theorem q167 : (Jvm.Cond.privateMethod ({ cls := "ScheduleReducer", name := "carry", desc := "(III)V" } : Jvm.MethodName)) ∈ lw_tbl := lw_at lw_m1 147 rfl
theorem q168 : (Jvm.Cond.instanceMethod ({ cls := "ScheduleReducer", name := "carry", desc := "(III)V" } : Jvm.MethodName)) ∈ lw_all := lw_g (lw_at lw_m1 148 rfl) rfl
theorem q169 : (Jvm.Cond.code ({ cls := "ScheduleReducer", name := "carry", desc := "(III)V" } : Jvm.MethodName) prog_1_method_18_code (7 : Nat) (Option.none : Option Jvm.ClassFile.FieldType)) ∈ lw_all := lw_g (lw_at lw_m1 149 rfl) rfl
theorem q170 : (Jvm.Cond.methodLink "ScheduleReducer" (109 : Nat) ({ cls := "ScheduleReducer", name := "touch", desc := "(II)Z" } : Jvm.MethodName)) ∈ lw_all := lw_g (lw_at lw_m1 150 rfl) rfl
theorem q171 : (Jvm.Cond.privateMethod ({ cls := "ScheduleReducer", name := "touch", desc := "(II)Z" } : Jvm.MethodName)) ∈ lw_tbl := lw_at lw_m1 151 rfl
theorem q172 : (Jvm.Cond.instanceMethod ({ cls := "ScheduleReducer", name := "touch", desc := "(II)Z" } : Jvm.MethodName)) ∈ lw_all := lw_g (lw_at lw_m1 152 rfl) rfl
theorem q173 : (Jvm.Cond.code ({ cls := "ScheduleReducer", name := "touch", desc := "(II)Z" } : Jvm.MethodName) prog_1_method_9_code (5 : Nat) (Option.some Jvm.ClassFile.FieldType.boolean)) ∈ lw_all := lw_g (lw_at lw_m1 153 rfl) rfl
theorem q175 : (Jvm.Cond.instanceMethod ({ cls := "ScheduleReducer", name := "canStick", desc := "()Z" } : Jvm.MethodName)) ∈ lw_all := lw_g (lw_at lw_m1 155 rfl) rfl
theorem q176 : (Jvm.Cond.selects "ScheduleReducer" ({ cls := "ScheduleReducer", name := "canStick", desc := "()Z" } : Jvm.MethodName) ({ cls := "ScheduleReducer", name := "canStick", desc := "()Z" } : Jvm.MethodName)) ∈ lw_all := lw_g (lw_at lw_m1 156 rfl) rfl
theorem q177 : (Jvm.Cond.code ({ cls := "ScheduleReducer", name := "canStick", desc := "()Z" } : Jvm.MethodName) prog_1_method_21_code (1 : Nat) (Option.some Jvm.ClassFile.FieldType.boolean)) ∈ lw_all := lw_g (lw_at lw_m1 157 rfl) rfl
theorem q179 : (Jvm.Cond.instanceMethod ({ cls := "ScheduleReducer", name := "canEnd", desc := "(II)Z" } : Jvm.MethodName)) ∈ lw_all := lw_g (lw_at lw_m1 159 rfl) rfl
theorem q180 : (Jvm.Cond.selects "ScheduleReducer" ({ cls := "ScheduleReducer", name := "canEnd", desc := "(II)Z" } : Jvm.MethodName) ({ cls := "ScheduleReducer", name := "canEnd", desc := "(II)Z" } : Jvm.MethodName)) ∈ lw_all := lw_g (lw_at lw_m1 160 rfl) rfl
theorem q181 : (Jvm.Cond.code ({ cls := "ScheduleReducer", name := "canEnd", desc := "(II)Z" } : Jvm.MethodName) prog_1_method_22_code (3 : Nat) (Option.some Jvm.ClassFile.FieldType.boolean)) ∈ lw_all := lw_g (lw_at lw_m1 161 rfl) rfl
theorem q182 : (Jvm.Cond.methodLink "ScheduleReducer" (128 : Nat) ({ cls := "ScheduleReducer", name := "canEndBoth", desc := "(IIII)Z" } : Jvm.MethodName)) ∈ lw_all := lw_g (lw_at lw_m1 162 rfl) rfl
theorem q183 : (Jvm.Cond.instanceMethod ({ cls := "ScheduleReducer", name := "canEndBoth", desc := "(IIII)Z" } : Jvm.MethodName)) ∈ lw_all := lw_g (lw_at lw_m1 163 rfl) rfl
theorem q184 : (Jvm.Cond.selects "ScheduleReducer" ({ cls := "ScheduleReducer", name := "canEndBoth", desc := "(IIII)Z" } : Jvm.MethodName) ({ cls := "ScheduleReducer", name := "canEndBoth", desc := "(IIII)Z" } : Jvm.MethodName)) ∈ lw_all := lw_g (lw_at lw_m1 164 rfl) rfl
theorem q185 : (Jvm.Cond.code ({ cls := "ScheduleReducer", name := "canEndBoth", desc := "(IIII)Z" } : Jvm.MethodName) prog_1_method_23_code (5 : Nat) (Option.some Jvm.ClassFile.FieldType.boolean)) ∈ lw_all := lw_g (lw_at lw_m1 165 rfl) rfl
theorem q188 : (Jvm.Cond.instanceMethod ({ cls := "ScheduleReducer", name := "extreme", desc := "(II)I" } : Jvm.MethodName)) ∈ lw_all := lw_g (lw_at lw_m1 168 rfl) rfl
theorem q189 : (Jvm.Cond.selects "ScheduleReducer" ({ cls := "ScheduleReducer", name := "extreme", desc := "(II)I" } : Jvm.MethodName) ({ cls := "ScheduleReducer", name := "extreme", desc := "(II)I" } : Jvm.MethodName)) ∈ lw_all := lw_g (lw_at lw_m1 169 rfl) rfl
theorem q190 : (Jvm.Cond.code ({ cls := "ScheduleReducer", name := "extreme", desc := "(II)I" } : Jvm.MethodName) prog_1_method_24_code (3 : Nat) (Option.some Jvm.ClassFile.FieldType.int)) ∈ lw_all := lw_g (lw_at lw_m1 170 rfl) rfl
theorem q192 : (Jvm.Cond.instanceMethod ({ cls := "ScheduleReducer", name := "accumulator", desc := "(II)I" } : Jvm.MethodName)) ∈ lw_all := lw_g (lw_at lw_m1 172 rfl) rfl
theorem q193 : (Jvm.Cond.selects "ScheduleReducer" ({ cls := "ScheduleReducer", name := "accumulator", desc := "(II)I" } : Jvm.MethodName) ({ cls := "ScheduleReducer", name := "accumulator", desc := "(II)I" } : Jvm.MethodName)) ∈ lw_all := lw_g (lw_at lw_m1 173 rfl) rfl
theorem q194 : (Jvm.Cond.code ({ cls := "ScheduleReducer", name := "accumulator", desc := "(II)I" } : Jvm.MethodName) prog_1_method_25_code (3 : Nat) (Option.some Jvm.ClassFile.FieldType.int)) ∈ lw_all := lw_g (lw_at lw_m1 174 rfl) rfl
theorem q196 : (Jvm.Cond.instanceMethod ({ cls := "ScheduleReducer", name := "races", desc := "(I)Z" } : Jvm.MethodName)) ∈ lw_all := lw_g (lw_at lw_m1 176 rfl) rfl
theorem q197 : (Jvm.Cond.selects "ScheduleReducer" ({ cls := "ScheduleReducer", name := "races", desc := "(I)Z" } : Jvm.MethodName) ({ cls := "ScheduleReducer", name := "races", desc := "(I)Z" } : Jvm.MethodName)) ∈ lw_all := lw_g (lw_at lw_m1 177 rfl) rfl
theorem q198 : (Jvm.Cond.code ({ cls := "ScheduleReducer", name := "races", desc := "(I)Z" } : Jvm.MethodName) prog_1_method_26_code (2 : Nat) (Option.some Jvm.ClassFile.FieldType.boolean)) ∈ lw_all := lw_g (lw_at lw_m1 178 rfl) rfl
theorem in_X0 : ∀ w ∈ wsX00, w ∈ lw_all := lw_in wsX00 [53, 55, 57, 59, 61, 63, 65, 67, 69, 71, 73, 75, 77, 79, 81, 83, 85, 87, 89, 91, 93, 95] (by decide +kernel) (by decide +kernel)

/-! ScheduleReducerModel -/
set_option maxRecDepth 100000
def RX1 : String := "ScheduleReducerModel"
def TX1 : u_T := fun k => match k with
  | 0 => ("ScheduleReducerModel", "size", "[I", false)
  | 1 => ("ScheduleReducerModel", "kinds", "[I", false)
  | 2 => ("ScheduleReducerModel", "numbers", "[I", false)
  | 3 => ("ScheduleReducerModel", "begins", "[I", false)
  | 4 => ("ScheduleReducerModel", "turns", "I", false)
  | 5 => ("ScheduleReducerModel", "turn", "[I", false)
  | 6 => ("ScheduleReducerModel", "steps", "[I", false)
  | 7 => ("ScheduleReducerModel", "values", "[I", false)
  | 8 => ("ScheduleReducerModel", "at", "[I", false)
  | _ => ("ScheduleReducerModel", "holder", "[I", false)
def tyX1 : Nat → FieldType := fun k => match k with
  | 0 => .array .int
  | 1 => .array .int
  | 2 => .array .int
  | 3 => .array .int
  | 4 => .int
  | 5 => .array .int
  | 6 => .array .int
  | 7 => .array .int
  | 8 => .array .int
  | _ => .array .int
abbrev wsX10 : List Cond := u_ws RX1 TX1 10
theorem nmX1 : ∀ a, a < 10 → ∀ b, b < 10 → a ≠ b → (TX1 a).2.1 ≠ (TX1 b).2.1 := by decide +kernel
theorem tyX1_ok : ∀ k, k < 10 → parseFieldDescriptor (TX1 k).2.2.1 = some (tyX1 k) := by decide +kernel
abbrev cX1_init : ByteArray := prog_3_method_1_code
def yX1_init : MethodName := ⟨RX1, "<init>", "()V"⟩
abbrev cX1_step : ByteArray := prog_3_method_3_code
def yX1_step : MethodName := ⟨RX1, "step", "(III)I"⟩
abbrev cX1_thread : ByteArray := prog_3_method_2_code
def yX1_thread : MethodName := ⟨RX1, "thread", "(I)Z"⟩
abbrev cX1_drop : ByteArray := prog_3_method_4_code
def yX1_drop : MethodName := ⟨RX1, "drop", "(I)I"⟩
abbrev cX1_begin : ByteArray := prog_3_method_5_code
def yX1_begin : MethodName := ⟨RX1, "begin", "(III)Z"⟩
abbrev cX1_length : ByteArray := prog_3_method_6_code
def yX1_length : MethodName := ⟨RX1, "length", "(I)I"⟩
abbrev cX1_schedules : ByteArray := prog_3_method_15_code
def yX1_schedules : MethodName := ⟨RX1, "schedules", "()I"⟩
abbrev cX1_first : ByteArray := prog_3_method_11_code
def yX1_first : MethodName := ⟨RX1, "first", "()V"⟩
abbrev cX1_replay : ByteArray := prog_3_method_9_code
def yX1_replay : MethodName := ⟨RX1, "replay", "(I)V"⟩
abbrev cX1_carryOut : ByteArray := prog_3_method_8_code
def yX1_carryOut : MethodName := ⟨RX1, "carryOut", "(I)V"⟩
abbrev cX1_extend : ByteArray := prog_3_method_10_code
def yX1_extend : MethodName := ⟨RX1, "extend", "()V"⟩
abbrev cX1_can : ByteArray := prog_3_method_7_code
def yX1_can : MethodName := ⟨RX1, "can", "(I)Z"⟩
abbrev cX1_next : ByteArray := prog_3_method_12_code
def yX1_next : MethodName := ⟨RX1, "next", "()Z"⟩
abbrev cX1_classes : ByteArray := prog_3_method_16_code
def yX1_classes : MethodName := ⟨RX1, "classes", "()I"⟩
abbrev cX1_settled : ByteArray := prog_3_method_14_code
def yX1_settled : MethodName := ⟨RX1, "settled", "()Z"⟩
abbrev cX1_touch : ByteArray := prog_3_method_13_code
def yX1_touch : MethodName := ⟨RX1, "touch", "(II)Z"⟩
abbrev cX1_canStick : ByteArray := prog_3_method_17_code
def yX1_canStick : MethodName := ⟨RX1, "canStick", "()Z"⟩
abbrev cX1_canEnd : ByteArray := prog_3_method_18_code
def yX1_canEnd : MethodName := ⟨RX1, "canEnd", "(II)Z"⟩
abbrev cX1_canEndBoth : ByteArray := prog_3_method_19_code
def yX1_canEndBoth : MethodName := ⟨RX1, "canEndBoth", "(IIII)Z"⟩
abbrev cX1_extreme : ByteArray := prog_3_method_21_code
def yX1_extreme : MethodName := ⟨RX1, "extreme", "(II)I"⟩
abbrev cX1_end : ByteArray := prog_3_method_20_code
def yX1_end : MethodName := ⟨RX1, "end", "(II)I"⟩
abbrev cX1_accumulator : ByteArray := prog_3_method_22_code
def yX1_accumulator : MethodName := ⟨RX1, "accumulator", "(II)I"⟩
abbrev cX1_races : ByteArray := prog_3_method_23_code
def yX1_races : MethodName := ⟨RX1, "races", "(I)Z"⟩
theorem q22 : (Jvm.Cond.initialized "ScheduleReducerModel") ∈ lw_all := lw_g (lw_at lw_m1 2 rfl) rfl
theorem q200 : (Jvm.Cond.instantiable "ScheduleReducerModel" (10 : Nat)) ∈ lw_all := lw_g (lw_at lw_m1 180 rfl) rfl
theorem q202 : (Jvm.Cond.instanceMethod ({ cls := "ScheduleReducerModel", name := "<init>", desc := "()V" } : Jvm.MethodName)) ∈ lw_all := lw_g (lw_at lw_m1 182 rfl) rfl
theorem q203 : (Jvm.Cond.code ({ cls := "ScheduleReducerModel", name := "<init>", desc := "()V" } : Jvm.MethodName) prog_3_method_1_code (1 : Nat) (Option.none : Option Jvm.ClassFile.FieldType)) ∈ lw_all := lw_g (lw_at lw_m1 183 rfl) rfl
theorem q204 : (Jvm.Cond.methodLink "ScheduleReducerModel" (1 : Nat) ({ cls := "java/lang/Object", name := "<init>", desc := "()V" } : Jvm.MethodName)) ∈ lw_all := lw_g (lw_at lw_m1 184 rfl) rfl
theorem q205 : (Jvm.Cond.fieldLink "ScheduleReducerModel" (7 : Nat) "ScheduleReducerModel" "size" "[I") ∈ lw_all := lw_g (lw_at lw_m1 185 rfl) rfl
theorem q206 : (Jvm.Cond.fieldLink "ScheduleReducerModel" (13 : Nat) "ScheduleReducerModel" "kinds" "[I") ∈ lw_all := lw_g (lw_at lw_m1 186 rfl) rfl
theorem q207 : (Jvm.Cond.fieldLink "ScheduleReducerModel" (16 : Nat) "ScheduleReducerModel" "numbers" "[I") ∈ lw_all := lw_g (lw_at lw_m1 187 rfl) rfl
theorem q208 : (Jvm.Cond.fieldLink "ScheduleReducerModel" (19 : Nat) "ScheduleReducerModel" "begins" "[I") ∈ lw_all := lw_g (lw_at lw_m1 188 rfl) rfl
theorem q209 : (Jvm.Cond.fieldLink "ScheduleReducerModel" (45 : Nat) "ScheduleReducerModel" "turns" "I") ∈ lw_all := lw_g (lw_at lw_m1 189 rfl) rfl
theorem q210 : (Jvm.Cond.fieldLink "ScheduleReducerModel" (22 : Nat) "ScheduleReducerModel" "turn" "[I") ∈ lw_all := lw_g (lw_at lw_m1 190 rfl) rfl
theorem q211 : (Jvm.Cond.fieldLink "ScheduleReducerModel" (25 : Nat) "ScheduleReducerModel" "steps" "[I") ∈ lw_all := lw_g (lw_at lw_m1 191 rfl) rfl
theorem q212 : (Jvm.Cond.fieldLink "ScheduleReducerModel" (28 : Nat) "ScheduleReducerModel" "values" "[I") ∈ lw_all := lw_g (lw_at lw_m1 192 rfl) rfl
theorem q213 : (Jvm.Cond.fieldLink "ScheduleReducerModel" (31 : Nat) "ScheduleReducerModel" "at" "[I") ∈ lw_all := lw_g (lw_at lw_m1 193 rfl) rfl
theorem q214 : (Jvm.Cond.fieldLink "ScheduleReducerModel" (34 : Nat) "ScheduleReducerModel" "holder" "[I") ∈ lw_all := lw_g (lw_at lw_m1 194 rfl) rfl
theorem q215 : (Jvm.Cond.lays "ScheduleReducerModel" "ScheduleReducerModel" "size" "[I") ∈ lw_all := lw_g (lw_at lw_m1 195 rfl) rfl
theorem q216 : (Jvm.Cond.soleField "ScheduleReducerModel" "size") ∈ lw_all := lw_g (lw_at lw_m1 196 rfl) rfl
theorem q217 : (Jvm.Cond.lays "ScheduleReducerModel" "ScheduleReducerModel" "kinds" "[I") ∈ lw_all := lw_g (lw_at lw_m1 197 rfl) rfl
theorem q218 : (Jvm.Cond.soleField "ScheduleReducerModel" "kinds") ∈ lw_all := lw_g (lw_at lw_m1 198 rfl) rfl
theorem q219 : (Jvm.Cond.lays "ScheduleReducerModel" "ScheduleReducerModel" "numbers" "[I") ∈ lw_all := lw_g (lw_at lw_m1 199 rfl) rfl
theorem q220 : (Jvm.Cond.soleField "ScheduleReducerModel" "numbers") ∈ lw_all := lw_g (lw_at lw_m1 200 rfl) rfl
theorem q221 : (Jvm.Cond.lays "ScheduleReducerModel" "ScheduleReducerModel" "begins" "[I") ∈ lw_all := lw_g (lw_at lw_m1 201 rfl) rfl
theorem q222 : (Jvm.Cond.soleField "ScheduleReducerModel" "begins") ∈ lw_all := lw_g (lw_at lw_m1 202 rfl) rfl
theorem q223 : (Jvm.Cond.lays "ScheduleReducerModel" "ScheduleReducerModel" "turns" "I") ∈ lw_all := lw_g (lw_at lw_m1 203 rfl) rfl
theorem q224 : (Jvm.Cond.soleField "ScheduleReducerModel" "turns") ∈ lw_all := lw_g (lw_at lw_m1 204 rfl) rfl
theorem q225 : (Jvm.Cond.lays "ScheduleReducerModel" "ScheduleReducerModel" "turn" "[I") ∈ lw_all := lw_g (lw_at lw_m1 205 rfl) rfl
theorem q226 : (Jvm.Cond.soleField "ScheduleReducerModel" "turn") ∈ lw_all := lw_g (lw_at lw_m1 206 rfl) rfl
theorem q227 : (Jvm.Cond.lays "ScheduleReducerModel" "ScheduleReducerModel" "steps" "[I") ∈ lw_all := lw_g (lw_at lw_m1 207 rfl) rfl
theorem q228 : (Jvm.Cond.soleField "ScheduleReducerModel" "steps") ∈ lw_all := lw_g (lw_at lw_m1 208 rfl) rfl
theorem q229 : (Jvm.Cond.lays "ScheduleReducerModel" "ScheduleReducerModel" "values" "[I") ∈ lw_all := lw_g (lw_at lw_m1 209 rfl) rfl
theorem q230 : (Jvm.Cond.soleField "ScheduleReducerModel" "values") ∈ lw_all := lw_g (lw_at lw_m1 210 rfl) rfl
theorem q231 : (Jvm.Cond.lays "ScheduleReducerModel" "ScheduleReducerModel" "at" "[I") ∈ lw_all := lw_g (lw_at lw_m1 211 rfl) rfl
theorem q232 : (Jvm.Cond.soleField "ScheduleReducerModel" "at") ∈ lw_all := lw_g (lw_at lw_m1 212 rfl) rfl
theorem q233 : (Jvm.Cond.lays "ScheduleReducerModel" "ScheduleReducerModel" "holder" "[I") ∈ lw_all := lw_g (lw_at lw_m1 213 rfl) rfl
theorem q234 : (Jvm.Cond.soleField "ScheduleReducerModel" "holder") ∈ lw_all := lw_g (lw_at lw_m1 214 rfl) rfl
theorem q235 : (Jvm.Cond.superclass "ScheduleReducerModel" "java/lang/Object") ∈ lw_all := lw_g (lw_at lw_m1 215 rfl) rfl
theorem q237 : (Jvm.Cond.instanceMethod ({ cls := "ScheduleReducerModel", name := "step", desc := "(III)I" } : Jvm.MethodName)) ∈ lw_all := lw_g (lw_at lw_m1 217 rfl) rfl
theorem q238 : (Jvm.Cond.selects "ScheduleReducerModel" ({ cls := "ScheduleReducerModel", name := "step", desc := "(III)I" } : Jvm.MethodName) ({ cls := "ScheduleReducerModel", name := "step", desc := "(III)I" } : Jvm.MethodName)) ∈ lw_all := lw_g (lw_at lw_m1 218 rfl) rfl
theorem q239 : (Jvm.Cond.code ({ cls := "ScheduleReducerModel", name := "step", desc := "(III)I" } : Jvm.MethodName) prog_3_method_3_code (4 : Nat) (Option.some Jvm.ClassFile.FieldType.int)) ∈ lw_all := lw_g (lw_at lw_m1 219 rfl) rfl
theorem q240 : (Jvm.Cond.methodLink "ScheduleReducerModel" (37 : Nat) ({ cls := "ScheduleReducerModel", name := "thread", desc := "(I)Z" } : Jvm.MethodName)) ∈ lw_all := lw_g (lw_at lw_m1 220 rfl) rfl
theorem q241 : (Jvm.Cond.privateMethod ({ cls := "ScheduleReducerModel", name := "thread", desc := "(I)Z" } : Jvm.MethodName)) ∈ lw_tbl := lw_at lw_m1 221 rfl
theorem q242 : (Jvm.Cond.instanceMethod ({ cls := "ScheduleReducerModel", name := "thread", desc := "(I)Z" } : Jvm.MethodName)) ∈ lw_all := lw_g (lw_at lw_m1 222 rfl) rfl
theorem q243 : (Jvm.Cond.code ({ cls := "ScheduleReducerModel", name := "thread", desc := "(I)Z" } : Jvm.MethodName) prog_3_method_2_code (2 : Nat) (Option.some Jvm.ClassFile.FieldType.boolean)) ∈ lw_all := lw_g (lw_at lw_m1 223 rfl) rfl
theorem q245 : (Jvm.Cond.instanceMethod ({ cls := "ScheduleReducerModel", name := "drop", desc := "(I)I" } : Jvm.MethodName)) ∈ lw_all := lw_g (lw_at lw_m1 225 rfl) rfl
theorem q246 : (Jvm.Cond.selects "ScheduleReducerModel" ({ cls := "ScheduleReducerModel", name := "drop", desc := "(I)I" } : Jvm.MethodName) ({ cls := "ScheduleReducerModel", name := "drop", desc := "(I)I" } : Jvm.MethodName)) ∈ lw_all := lw_g (lw_at lw_m1 226 rfl) rfl
theorem q247 : (Jvm.Cond.code ({ cls := "ScheduleReducerModel", name := "drop", desc := "(I)I" } : Jvm.MethodName) prog_3_method_4_code (2 : Nat) (Option.some Jvm.ClassFile.FieldType.int)) ∈ lw_all := lw_g (lw_at lw_m1 227 rfl) rfl
theorem q249 : (Jvm.Cond.instanceMethod ({ cls := "ScheduleReducerModel", name := "begin", desc := "(III)Z" } : Jvm.MethodName)) ∈ lw_all := lw_g (lw_at lw_m1 229 rfl) rfl
theorem q250 : (Jvm.Cond.selects "ScheduleReducerModel" ({ cls := "ScheduleReducerModel", name := "begin", desc := "(III)Z" } : Jvm.MethodName) ({ cls := "ScheduleReducerModel", name := "begin", desc := "(III)Z" } : Jvm.MethodName)) ∈ lw_all := lw_g (lw_at lw_m1 230 rfl) rfl
theorem q251 : (Jvm.Cond.code ({ cls := "ScheduleReducerModel", name := "begin", desc := "(III)Z" } : Jvm.MethodName) prog_3_method_5_code (4 : Nat) (Option.some Jvm.ClassFile.FieldType.boolean)) ∈ lw_all := lw_g (lw_at lw_m1 231 rfl) rfl
theorem q253 : (Jvm.Cond.instanceMethod ({ cls := "ScheduleReducerModel", name := "length", desc := "(I)I" } : Jvm.MethodName)) ∈ lw_all := lw_g (lw_at lw_m1 233 rfl) rfl
theorem q254 : (Jvm.Cond.selects "ScheduleReducerModel" ({ cls := "ScheduleReducerModel", name := "length", desc := "(I)I" } : Jvm.MethodName) ({ cls := "ScheduleReducerModel", name := "length", desc := "(I)I" } : Jvm.MethodName)) ∈ lw_all := lw_g (lw_at lw_m1 234 rfl) rfl
theorem q255 : (Jvm.Cond.code ({ cls := "ScheduleReducerModel", name := "length", desc := "(I)I" } : Jvm.MethodName) prog_3_method_6_code (2 : Nat) (Option.some Jvm.ClassFile.FieldType.int)) ∈ lw_all := lw_g (lw_at lw_m1 235 rfl) rfl
theorem q257 : (Jvm.Cond.instanceMethod ({ cls := "ScheduleReducerModel", name := "schedules", desc := "()I" } : Jvm.MethodName)) ∈ lw_all := lw_g (lw_at lw_m1 237 rfl) rfl
theorem q258 : (Jvm.Cond.selects "ScheduleReducerModel" ({ cls := "ScheduleReducerModel", name := "schedules", desc := "()I" } : Jvm.MethodName) ({ cls := "ScheduleReducerModel", name := "schedules", desc := "()I" } : Jvm.MethodName)) ∈ lw_all := lw_g (lw_at lw_m1 238 rfl) rfl
theorem q259 : (Jvm.Cond.code ({ cls := "ScheduleReducerModel", name := "schedules", desc := "()I" } : Jvm.MethodName) prog_3_method_15_code (3 : Nat) (Option.some Jvm.ClassFile.FieldType.int)) ∈ lw_all := lw_g (lw_at lw_m1 239 rfl) rfl
theorem q260 : (Jvm.Cond.methodLink "ScheduleReducerModel" (62 : Nat) ({ cls := "ScheduleReducerModel", name := "first", desc := "()V" } : Jvm.MethodName)) ∈ lw_all := lw_g (lw_at lw_m2 0 rfl) rfl
theorem q261 : (Jvm.Cond.privateMethod ({ cls := "ScheduleReducerModel", name := "first", desc := "()V" } : Jvm.MethodName)) ∈ lw_tbl := lw_at lw_m2 1 rfl
theorem q262 : (Jvm.Cond.instanceMethod ({ cls := "ScheduleReducerModel", name := "first", desc := "()V" } : Jvm.MethodName)) ∈ lw_all := lw_g (lw_at lw_m2 2 rfl) rfl
theorem q263 : (Jvm.Cond.code ({ cls := "ScheduleReducerModel", name := "first", desc := "()V" } : Jvm.MethodName) prog_3_method_11_code (1 : Nat) (Option.none : Option Jvm.ClassFile.FieldType)) ∈ lw_all := lw_g (lw_at lw_m2 3 rfl) rfl
theorem q264 : (Jvm.Cond.methodLink "ScheduleReducerModel" (52 : Nat) ({ cls := "ScheduleReducerModel", name := "replay", desc := "(I)V" } : Jvm.MethodName)) ∈ lw_all := lw_g (lw_at lw_m2 4 rfl) rfl
theorem q265 : (Jvm.Cond.privateMethod ({ cls := "ScheduleReducerModel", name := "replay", desc := "(I)V" } : Jvm.MethodName)) ∈ lw_tbl := lw_at lw_m2 5 rfl
theorem q266 : (Jvm.Cond.instanceMethod ({ cls := "ScheduleReducerModel", name := "replay", desc := "(I)V" } : Jvm.MethodName)) ∈ lw_all := lw_g (lw_at lw_m2 6 rfl) rfl
theorem q267 : (Jvm.Cond.code ({ cls := "ScheduleReducerModel", name := "replay", desc := "(I)V" } : Jvm.MethodName) prog_3_method_9_code (3 : Nat) (Option.none : Option Jvm.ClassFile.FieldType)) ∈ lw_all := lw_g (lw_at lw_m2 7 rfl) rfl
theorem q268 : (Jvm.Cond.methodLink "ScheduleReducerModel" (41 : Nat) ({ cls := "ScheduleReducerModel", name := "carryOut", desc := "(I)V" } : Jvm.MethodName)) ∈ lw_all := lw_g (lw_at lw_m2 8 rfl) rfl
theorem q269 : (Jvm.Cond.privateMethod ({ cls := "ScheduleReducerModel", name := "carryOut", desc := "(I)V" } : Jvm.MethodName)) ∈ lw_tbl := lw_at lw_m2 9 rfl
theorem q270 : (Jvm.Cond.instanceMethod ({ cls := "ScheduleReducerModel", name := "carryOut", desc := "(I)V" } : Jvm.MethodName)) ∈ lw_all := lw_g (lw_at lw_m2 10 rfl) rfl
theorem q271 : (Jvm.Cond.code ({ cls := "ScheduleReducerModel", name := "carryOut", desc := "(I)V" } : Jvm.MethodName) prog_3_method_8_code (7 : Nat) (Option.none : Option Jvm.ClassFile.FieldType)) ∈ lw_all := lw_g (lw_at lw_m2 11 rfl) rfl
theorem q272 : (Jvm.Cond.methodLink "ScheduleReducerModel" (55 : Nat) ({ cls := "ScheduleReducerModel", name := "extend", desc := "()V" } : Jvm.MethodName)) ∈ lw_all := lw_g (lw_at lw_m2 12 rfl) rfl
theorem q273 : (Jvm.Cond.privateMethod ({ cls := "ScheduleReducerModel", name := "extend", desc := "()V" } : Jvm.MethodName)) ∈ lw_tbl := lw_at lw_m2 13 rfl
theorem q274 : (Jvm.Cond.instanceMethod ({ cls := "ScheduleReducerModel", name := "extend", desc := "()V" } : Jvm.MethodName)) ∈ lw_all := lw_g (lw_at lw_m2 14 rfl) rfl
theorem q275 : (Jvm.Cond.code ({ cls := "ScheduleReducerModel", name := "extend", desc := "()V" } : Jvm.MethodName) prog_3_method_10_code (2 : Nat) (Option.none : Option Jvm.ClassFile.FieldType)) ∈ lw_all := lw_g (lw_at lw_m2 15 rfl) rfl
theorem q276 : (Jvm.Cond.methodLink "ScheduleReducerModel" (49 : Nat) ({ cls := "ScheduleReducerModel", name := "can", desc := "(I)Z" } : Jvm.MethodName)) ∈ lw_all := lw_g (lw_at lw_m2 16 rfl) rfl
theorem q277 : (Jvm.Cond.privateMethod ({ cls := "ScheduleReducerModel", name := "can", desc := "(I)Z" } : Jvm.MethodName)) ∈ lw_tbl := lw_at lw_m2 17 rfl
theorem q278 : (Jvm.Cond.instanceMethod ({ cls := "ScheduleReducerModel", name := "can", desc := "(I)Z" } : Jvm.MethodName)) ∈ lw_all := lw_g (lw_at lw_m2 18 rfl) rfl
theorem q279 : (Jvm.Cond.code ({ cls := "ScheduleReducerModel", name := "can", desc := "(I)Z" } : Jvm.MethodName) prog_3_method_7_code (3 : Nat) (Option.some Jvm.ClassFile.FieldType.boolean)) ∈ lw_all := lw_g (lw_at lw_m2 19 rfl) rfl
theorem q280 : (Jvm.Cond.constant "ScheduleReducerModel" (65 : Nat) (34650 : Int32)) ∈ lw_all := lw_g (lw_at lw_m2 20 rfl) rfl
theorem q281 : (Jvm.Cond.methodLink "ScheduleReducerModel" (66 : Nat) ({ cls := "ScheduleReducerModel", name := "next", desc := "()Z" } : Jvm.MethodName)) ∈ lw_all := lw_g (lw_at lw_m2 21 rfl) rfl
theorem q282 : (Jvm.Cond.privateMethod ({ cls := "ScheduleReducerModel", name := "next", desc := "()Z" } : Jvm.MethodName)) ∈ lw_tbl := lw_at lw_m2 22 rfl
theorem q283 : (Jvm.Cond.instanceMethod ({ cls := "ScheduleReducerModel", name := "next", desc := "()Z" } : Jvm.MethodName)) ∈ lw_all := lw_g (lw_at lw_m2 23 rfl) rfl
theorem q284 : (Jvm.Cond.code ({ cls := "ScheduleReducerModel", name := "next", desc := "()Z" } : Jvm.MethodName) prog_3_method_12_code (3 : Nat) (Option.some Jvm.ClassFile.FieldType.boolean)) ∈ lw_all := lw_g (lw_at lw_m2 24 rfl) rfl
theorem q286 : (Jvm.Cond.instanceMethod ({ cls := "ScheduleReducerModel", name := "classes", desc := "()I" } : Jvm.MethodName)) ∈ lw_all := lw_g (lw_at lw_m2 26 rfl) rfl
theorem q287 : (Jvm.Cond.selects "ScheduleReducerModel" ({ cls := "ScheduleReducerModel", name := "classes", desc := "()I" } : Jvm.MethodName) ({ cls := "ScheduleReducerModel", name := "classes", desc := "()I" } : Jvm.MethodName)) ∈ lw_all := lw_g (lw_at lw_m2 27 rfl) rfl
theorem q288 : (Jvm.Cond.code ({ cls := "ScheduleReducerModel", name := "classes", desc := "()I" } : Jvm.MethodName) prog_3_method_16_code (4 : Nat) (Option.some Jvm.ClassFile.FieldType.int)) ∈ lw_all := lw_g (lw_at lw_m2 28 rfl) rfl
theorem q289 : (Jvm.Cond.methodLink "ScheduleReducerModel" (70 : Nat) ({ cls := "ScheduleReducerModel", name := "settled", desc := "()Z" } : Jvm.MethodName)) ∈ lw_all := lw_g (lw_at lw_m2 29 rfl) rfl
theorem q290 : (Jvm.Cond.privateMethod ({ cls := "ScheduleReducerModel", name := "settled", desc := "()Z" } : Jvm.MethodName)) ∈ lw_tbl := lw_at lw_m2 30 rfl
theorem q291 : (Jvm.Cond.instanceMethod ({ cls := "ScheduleReducerModel", name := "settled", desc := "()Z" } : Jvm.MethodName)) ∈ lw_all := lw_g (lw_at lw_m2 31 rfl) rfl
theorem q292 : (Jvm.Cond.code ({ cls := "ScheduleReducerModel", name := "settled", desc := "()Z" } : Jvm.MethodName) prog_3_method_14_code (5 : Nat) (Option.some Jvm.ClassFile.FieldType.boolean)) ∈ lw_all := lw_g (lw_at lw_m2 32 rfl) rfl
theorem q293 : (Jvm.Cond.methodLink "ScheduleReducerModel" (58 : Nat) ({ cls := "ScheduleReducerModel", name := "touch", desc := "(II)Z" } : Jvm.MethodName)) ∈ lw_all := lw_g (lw_at lw_m2 33 rfl) rfl
theorem q294 : (Jvm.Cond.privateMethod ({ cls := "ScheduleReducerModel", name := "touch", desc := "(II)Z" } : Jvm.MethodName)) ∈ lw_tbl := lw_at lw_m2 34 rfl
theorem q295 : (Jvm.Cond.instanceMethod ({ cls := "ScheduleReducerModel", name := "touch", desc := "(II)Z" } : Jvm.MethodName)) ∈ lw_all := lw_g (lw_at lw_m2 35 rfl) rfl
theorem q296 : (Jvm.Cond.code ({ cls := "ScheduleReducerModel", name := "touch", desc := "(II)Z" } : Jvm.MethodName) prog_3_method_13_code (6 : Nat) (Option.some Jvm.ClassFile.FieldType.boolean)) ∈ lw_all := lw_g (lw_at lw_m2 36 rfl) rfl
theorem q298 : (Jvm.Cond.instanceMethod ({ cls := "ScheduleReducerModel", name := "canStick", desc := "()Z" } : Jvm.MethodName)) ∈ lw_all := lw_g (lw_at lw_m2 38 rfl) rfl
theorem q299 : (Jvm.Cond.selects "ScheduleReducerModel" ({ cls := "ScheduleReducerModel", name := "canStick", desc := "()Z" } : Jvm.MethodName) ({ cls := "ScheduleReducerModel", name := "canStick", desc := "()Z" } : Jvm.MethodName)) ∈ lw_all := lw_g (lw_at lw_m2 39 rfl) rfl
theorem q300 : (Jvm.Cond.code ({ cls := "ScheduleReducerModel", name := "canStick", desc := "()Z" } : Jvm.MethodName) prog_3_method_17_code (4 : Nat) (Option.some Jvm.ClassFile.FieldType.boolean)) ∈ lw_all := lw_g (lw_at lw_m2 40 rfl) rfl
theorem q302 : (Jvm.Cond.instanceMethod ({ cls := "ScheduleReducerModel", name := "canEnd", desc := "(II)Z" } : Jvm.MethodName)) ∈ lw_all := lw_g (lw_at lw_m2 42 rfl) rfl
theorem q303 : (Jvm.Cond.selects "ScheduleReducerModel" ({ cls := "ScheduleReducerModel", name := "canEnd", desc := "(II)Z" } : Jvm.MethodName) ({ cls := "ScheduleReducerModel", name := "canEnd", desc := "(II)Z" } : Jvm.MethodName)) ∈ lw_all := lw_g (lw_at lw_m2 43 rfl) rfl
theorem q304 : (Jvm.Cond.code ({ cls := "ScheduleReducerModel", name := "canEnd", desc := "(II)Z" } : Jvm.MethodName) prog_3_method_18_code (3 : Nat) (Option.some Jvm.ClassFile.FieldType.boolean)) ∈ lw_all := lw_g (lw_at lw_m2 44 rfl) rfl
theorem q305 : (Jvm.Cond.methodLink "ScheduleReducerModel" (73 : Nat) ({ cls := "ScheduleReducerModel", name := "canEndBoth", desc := "(IIII)Z" } : Jvm.MethodName)) ∈ lw_all := lw_g (lw_at lw_m2 45 rfl) rfl
theorem q306 : (Jvm.Cond.instanceMethod ({ cls := "ScheduleReducerModel", name := "canEndBoth", desc := "(IIII)Z" } : Jvm.MethodName)) ∈ lw_all := lw_g (lw_at lw_m2 46 rfl) rfl
theorem q307 : (Jvm.Cond.selects "ScheduleReducerModel" ({ cls := "ScheduleReducerModel", name := "canEndBoth", desc := "(IIII)Z" } : Jvm.MethodName) ({ cls := "ScheduleReducerModel", name := "canEndBoth", desc := "(IIII)Z" } : Jvm.MethodName)) ∈ lw_all := lw_g (lw_at lw_m2 47 rfl) rfl
theorem q308 : (Jvm.Cond.code ({ cls := "ScheduleReducerModel", name := "canEndBoth", desc := "(IIII)Z" } : Jvm.MethodName) prog_3_method_19_code (8 : Nat) (Option.some Jvm.ClassFile.FieldType.boolean)) ∈ lw_all := lw_g (lw_at lw_m2 48 rfl) rfl
theorem q311 : (Jvm.Cond.instanceMethod ({ cls := "ScheduleReducerModel", name := "extreme", desc := "(II)I" } : Jvm.MethodName)) ∈ lw_all := lw_g (lw_at lw_m2 51 rfl) rfl
theorem q312 : (Jvm.Cond.selects "ScheduleReducerModel" ({ cls := "ScheduleReducerModel", name := "extreme", desc := "(II)I" } : Jvm.MethodName) ({ cls := "ScheduleReducerModel", name := "extreme", desc := "(II)I" } : Jvm.MethodName)) ∈ lw_all := lw_g (lw_at lw_m2 52 rfl) rfl
theorem q313 : (Jvm.Cond.code ({ cls := "ScheduleReducerModel", name := "extreme", desc := "(II)I" } : Jvm.MethodName) prog_3_method_21_code (3 : Nat) (Option.some Jvm.ClassFile.FieldType.int)) ∈ lw_all := lw_g (lw_at lw_m2 53 rfl) rfl
theorem q314 : (Jvm.Cond.methodLink "ScheduleReducerModel" (77 : Nat) ({ cls := "ScheduleReducerModel", name := "end", desc := "(II)I" } : Jvm.MethodName)) ∈ lw_all := lw_g (lw_at lw_m2 54 rfl) rfl
theorem q315 : (Jvm.Cond.privateMethod ({ cls := "ScheduleReducerModel", name := "end", desc := "(II)I" } : Jvm.MethodName)) ∈ lw_tbl := lw_at lw_m2 55 rfl
theorem q316 : (Jvm.Cond.instanceMethod ({ cls := "ScheduleReducerModel", name := "end", desc := "(II)I" } : Jvm.MethodName)) ∈ lw_all := lw_g (lw_at lw_m2 56 rfl) rfl
theorem q317 : (Jvm.Cond.code ({ cls := "ScheduleReducerModel", name := "end", desc := "(II)I" } : Jvm.MethodName) prog_3_method_20_code (7 : Nat) (Option.some Jvm.ClassFile.FieldType.int)) ∈ lw_all := lw_g (lw_at lw_m2 57 rfl) rfl
theorem q319 : (Jvm.Cond.instanceMethod ({ cls := "ScheduleReducerModel", name := "accumulator", desc := "(II)I" } : Jvm.MethodName)) ∈ lw_all := lw_g (lw_at lw_m2 59 rfl) rfl
theorem q320 : (Jvm.Cond.selects "ScheduleReducerModel" ({ cls := "ScheduleReducerModel", name := "accumulator", desc := "(II)I" } : Jvm.MethodName) ({ cls := "ScheduleReducerModel", name := "accumulator", desc := "(II)I" } : Jvm.MethodName)) ∈ lw_all := lw_g (lw_at lw_m2 60 rfl) rfl
theorem q321 : (Jvm.Cond.code ({ cls := "ScheduleReducerModel", name := "accumulator", desc := "(II)I" } : Jvm.MethodName) prog_3_method_22_code (3 : Nat) (Option.some Jvm.ClassFile.FieldType.int)) ∈ lw_all := lw_g (lw_at lw_m2 61 rfl) rfl
theorem q323 : (Jvm.Cond.instanceMethod ({ cls := "ScheduleReducerModel", name := "races", desc := "(I)Z" } : Jvm.MethodName)) ∈ lw_all := lw_g (lw_at lw_m2 63 rfl) rfl
theorem q324 : (Jvm.Cond.selects "ScheduleReducerModel" ({ cls := "ScheduleReducerModel", name := "races", desc := "(I)Z" } : Jvm.MethodName) ({ cls := "ScheduleReducerModel", name := "races", desc := "(I)Z" } : Jvm.MethodName)) ∈ lw_all := lw_g (lw_at lw_m2 64 rfl) rfl
theorem q325 : (Jvm.Cond.code ({ cls := "ScheduleReducerModel", name := "races", desc := "(I)Z" } : Jvm.MethodName) prog_3_method_23_code (2 : Nat) (Option.some Jvm.ClassFile.FieldType.boolean)) ∈ lw_all := lw_g (lw_at lw_m2 65 rfl) rfl
theorem in_X1 : ∀ w ∈ wsX10, w ∈ lw_all := lw_in wsX10 [215, 217, 219, 221, 223, 225, 227, 229, 231, 233] (by decide +kernel) (by decide +kernel)

/-! the law's own entry -/
set_option maxRecDepth 100000
abbrev cL_law : ByteArray := code
end
section
set_option maxRecDepth 100000
theorem dX0_init_0 : decode cX0_init 0 = .ok (.aload_n 0, 1) := by decide +kernel
theorem dX0_init_1 : decode cX0_init 1 = .ok (.invokespecial 1, 3) := by decide +kernel
theorem dX0_init_4 : decode cX0_init 4 = .ok (.aload_n 0, 1) := by decide +kernel
theorem dX0_init_5 : decode cX0_init 5 = .ok (.iconst 3, 1) := by decide +kernel
theorem dX0_init_6 : decode cX0_init 6 = .ok (.newarray .byte, 2) := by decide +kernel
theorem dX0_init_8 : decode cX0_init 8 = .ok (.putfield 7, 3) := by decide +kernel
theorem dX0_init_11 : decode cX0_init 11 = .ok (.aload_n 0, 1) := by decide +kernel
theorem dX0_init_12 : decode cX0_init 12 = .ok (.bipush 12, 2) := by decide +kernel
theorem dX0_init_14 : decode cX0_init 14 = .ok (.newarray .byte, 2) := by decide +kernel
theorem dX0_init_16 : decode cX0_init 16 = .ok (.putfield 13, 3) := by decide +kernel
theorem dX0_init_19 : decode cX0_init 19 = .ok (.aload_n 0, 1) := by decide +kernel
theorem dX0_init_20 : decode cX0_init 20 = .ok (.bipush 12, 2) := by decide +kernel
theorem dX0_init_22 : decode cX0_init 22 = .ok (.newarray .int, 2) := by decide +kernel
theorem dX0_init_24 : decode cX0_init 24 = .ok (.putfield 16, 3) := by decide +kernel
theorem dX0_init_27 : decode cX0_init 27 = .ok (.aload_n 0, 1) := by decide +kernel
theorem dX0_init_28 : decode cX0_init 28 = .ok (.iconst 3, 1) := by decide +kernel
theorem dX0_init_29 : decode cX0_init 29 = .ok (.newarray .int, 2) := by decide +kernel
theorem dX0_init_31 : decode cX0_init 31 = .ok (.putfield 20, 3) := by decide +kernel
theorem dX0_init_34 : decode cX0_init 34 = .ok (.aload_n 0, 1) := by decide +kernel
theorem dX0_init_35 : decode cX0_init 35 = .ok (.iconst 3, 1) := by decide +kernel
theorem dX0_init_36 : decode cX0_init 36 = .ok (.newarray .int, 2) := by decide +kernel
theorem dX0_init_38 : decode cX0_init 38 = .ok (.putfield 23, 3) := by decide +kernel
theorem dX0_init_41 : decode cX0_init 41 = .ok (.aload_n 0, 1) := by decide +kernel
theorem dX0_init_42 : decode cX0_init 42 = .ok (.bipush 125, 2) := by decide +kernel
theorem dX0_init_44 : decode cX0_init 44 = .ok (.newarray .int, 2) := by decide +kernel
theorem dX0_init_46 : decode cX0_init 46 = .ok (.putfield 26, 3) := by decide +kernel
theorem dX0_init_49 : decode cX0_init 49 = .ok (.aload_n 0, 1) := by decide +kernel
theorem dX0_init_50 : decode cX0_init 50 = .ok (.bipush 39, 2) := by decide +kernel
theorem dX0_init_52 : decode cX0_init 52 = .ok (.newarray .byte, 2) := by decide +kernel
theorem dX0_init_54 : decode cX0_init 54 = .ok (.putfield 29, 3) := by decide +kernel
theorem dX0_init_57 : decode cX0_init 57 = .ok (.aload_n 0, 1) := by decide +kernel
theorem dX0_init_58 : decode cX0_init 58 = .ok (.bipush 39, 2) := by decide +kernel
theorem dX0_init_60 : decode cX0_init 60 = .ok (.newarray .int, 2) := by decide +kernel
theorem dX0_init_62 : decode cX0_init 62 = .ok (.putfield 32, 3) := by decide +kernel
theorem dX0_init_65 : decode cX0_init 65 = .ok (.aload_n 0, 1) := by decide +kernel
theorem dX0_init_66 : decode cX0_init 66 = .ok (.bipush 39, 2) := by decide +kernel
theorem dX0_init_68 : decode cX0_init 68 = .ok (.newarray .int, 2) := by decide +kernel
theorem dX0_init_70 : decode cX0_init 70 = .ok (.putfield 35, 3) := by decide +kernel
theorem dX0_init_73 : decode cX0_init 73 = .ok (.aload_n 0, 1) := by decide +kernel
theorem dX0_init_74 : decode cX0_init 74 = .ok (.bipush 13, 2) := by decide +kernel
theorem dX0_init_76 : decode cX0_init 76 = .ok (.newarray .byte, 2) := by decide +kernel
theorem dX0_init_78 : decode cX0_init 78 = .ok (.putfield 38, 3) := by decide +kernel
theorem dX0_init_81 : decode cX0_init 81 = .ok (.aload_n 0, 1) := by decide +kernel
theorem dX0_init_82 : decode cX0_init 82 = .ok (.bipush 13, 2) := by decide +kernel
theorem dX0_init_84 : decode cX0_init 84 = .ok (.newarray .byte, 2) := by decide +kernel
theorem dX0_init_86 : decode cX0_init 86 = .ok (.putfield 41, 3) := by decide +kernel
theorem dX0_init_89 : decode cX0_init 89 = .ok (.aload_n 0, 1) := by decide +kernel
theorem dX0_init_90 : decode cX0_init 90 = .ok (.iconst 3, 1) := by decide +kernel
theorem dX0_init_91 : decode cX0_init 91 = .ok (.newarray .int, 2) := by decide +kernel
theorem dX0_init_93 : decode cX0_init 93 = .ok (.putfield 44, 3) := by decide +kernel
theorem dX0_init_96 : decode cX0_init 96 = .ok (.aload_n 0, 1) := by decide +kernel
theorem dX0_init_97 : decode cX0_init 97 = .ok (.iconst 3, 1) := by decide +kernel
theorem dX0_init_98 : decode cX0_init 98 = .ok (.newarray .int, 2) := by decide +kernel
theorem dX0_init_100 : decode cX0_init 100 = .ok (.putfield 47, 3) := by decide +kernel
theorem dX0_init_103 : decode cX0_init 103 = .ok (.aload_n 0, 1) := by decide +kernel
theorem dX0_init_104 : decode cX0_init 104 = .ok (.iconst 3, 1) := by decide +kernel
theorem dX0_init_105 : decode cX0_init 105 = .ok (.newarray .int, 2) := by decide +kernel
theorem dX0_init_107 : decode cX0_init 107 = .ok (.putfield 50, 3) := by decide +kernel
theorem dX0_init_110 : decode cX0_init 110 = .ok (.aload_n 0, 1) := by decide +kernel
theorem dX0_init_111 : decode cX0_init 111 = .ok (.iconst 3, 1) := by decide +kernel
theorem dX0_init_112 : decode cX0_init 112 = .ok (.newarray .int, 2) := by decide +kernel
theorem dX0_init_114 : decode cX0_init 114 = .ok (.putfield 53, 3) := by decide +kernel
theorem dX0_init_117 : decode cX0_init 117 = .ok (.return_, 1) := by decide +kernel
theorem dX0_step_0 : decode cX0_step 0 = .ok (.iload_n 2, 1) := by decide +kernel
theorem dX0_step_1 : decode cX0_step 1 = .ok (.ifCond .lt 12, 3) := by decide +kernel
theorem dX0_step_4 : decode cX0_step 4 = .ok (.iload_n 2, 1) := by decide +kernel
theorem dX0_step_5 : decode cX0_step 5 = .ok (.iconst 2, 1) := by decide +kernel
theorem dX0_step_6 : decode cX0_step 6 = .ok (.if_icmp .gt 7, 3) := by decide +kernel
theorem dX0_step_9 : decode cX0_step 9 = .ok (.iconst 1, 1) := by decide +kernel
theorem dX0_step_10 : decode cX0_step 10 = .ok (.goto 4, 3) := by decide +kernel
theorem dX0_step_13 : decode cX0_step 13 = .ok (.iconst 0, 1) := by decide +kernel
theorem dX0_step_14 : decode cX0_step 14 = .ok (.istore 4, 2) := by decide +kernel
theorem dX0_step_16 : decode cX0_step 16 = .ok (.iload_n 2, 1) := by decide +kernel
theorem dX0_step_17 : decode cX0_step 17 = .ok (.iconst 4, 1) := by decide +kernel
theorem dX0_step_18 : decode cX0_step 18 = .ok (.if_icmp .eq 8, 3) := by decide +kernel
theorem dX0_step_21 : decode cX0_step 21 = .ok (.iload_n 2, 1) := by decide +kernel
theorem dX0_step_22 : decode cX0_step 22 = .ok (.iconst 5, 1) := by decide +kernel
theorem dX0_step_23 : decode cX0_step 23 = .ok (.if_icmp .ne 7, 3) := by decide +kernel
theorem dX0_step_26 : decode cX0_step 26 = .ok (.iconst 1, 1) := by decide +kernel
theorem dX0_step_27 : decode cX0_step 27 = .ok (.goto 4, 3) := by decide +kernel
theorem dX0_step_30 : decode cX0_step 30 = .ok (.iconst 0, 1) := by decide +kernel
theorem dX0_step_31 : decode cX0_step 31 = .ok (.istore 5, 2) := by decide +kernel
theorem dX0_step_33 : decode cX0_step 33 = .ok (.iload_n 1, 1) := by decide +kernel
theorem dX0_step_34 : decode cX0_step 34 = .ok (.invokestatic 56, 3) := by decide +kernel
theorem dX0_step_37 : decode cX0_step 37 = .ok (.ifCond .eq 38, 3) := by decide +kernel
theorem dX0_step_40 : decode cX0_step 40 = .ok (.iload_n 2, 1) := by decide +kernel
theorem dX0_step_41 : decode cX0_step 41 = .ok (.ifCond .lt 34, 3) := by decide +kernel
theorem dX0_step_44 : decode cX0_step 44 = .ok (.iload_n 2, 1) := by decide +kernel
theorem dX0_step_45 : decode cX0_step 45 = .ok (.iconst 5, 1) := by decide +kernel
theorem dX0_step_46 : decode cX0_step 46 = .ok (.if_icmp .gt 29, 3) := by decide +kernel
theorem dX0_step_49 : decode cX0_step 49 = .ok (.iload 4, 2) := by decide +kernel
theorem dX0_step_51 : decode cX0_step 51 = .ok (.ifCond .eq 10, 3) := by decide +kernel
theorem dX0_step_54 : decode cX0_step 54 = .ok (.iload_n 3, 1) := by decide +kernel
theorem dX0_step_55 : decode cX0_step 55 = .ok (.invokestatic 56, 3) := by decide +kernel
theorem dX0_step_58 : decode cX0_step 58 = .ok (.ifCond .eq 17, 3) := by decide +kernel
theorem dX0_step_61 : decode cX0_step 61 = .ok (.iload 5, 2) := by decide +kernel
theorem dX0_step_63 : decode cX0_step 63 = .ok (.ifCond .eq 14, 3) := by decide +kernel
theorem dX0_step_66 : decode cX0_step 66 = .ok (.iload_n 3, 1) := by decide +kernel
theorem dX0_step_67 : decode cX0_step 67 = .ok (.ifCond .lt 8, 3) := by decide +kernel
theorem dX0_step_70 : decode cX0_step 70 = .ok (.iload_n 3, 1) := by decide +kernel
theorem dX0_step_71 : decode cX0_step 71 = .ok (.iconst 1, 1) := by decide +kernel
theorem dX0_step_72 : decode cX0_step 72 = .ok (.if_icmp .le 5, 3) := by decide +kernel
theorem dX0_step_75 : decode cX0_step 75 = .ok (.iconst (-1), 1) := by decide +kernel
theorem dX0_step_76 : decode cX0_step 76 = .ok (.ireturn, 1) := by decide +kernel
theorem dX0_step_77 : decode cX0_step 77 = .ok (.aload_n 0, 1) := by decide +kernel
theorem dX0_step_78 : decode cX0_step 78 = .ok (.getfield 7, 3) := by decide +kernel
theorem dX0_step_81 : decode cX0_step 81 = .ok (.iload_n 1, 1) := by decide +kernel
theorem dX0_step_82 : decode cX0_step 82 = .ok (.baload, 1) := by decide +kernel
theorem dX0_step_83 : decode cX0_step 83 = .ok (.iconst 4, 1) := by decide +kernel
theorem dX0_step_84 : decode cX0_step 84 = .ok (.if_icmp .lt 6, 3) := by decide +kernel
theorem dX0_step_87 : decode cX0_step 87 = .ok (.bipush (-2), 2) := by decide +kernel
theorem dX0_step_89 : decode cX0_step 89 = .ok (.ireturn, 1) := by decide +kernel
theorem dX0_step_90 : decode cX0_step 90 = .ok (.aload_n 0, 1) := by decide +kernel
theorem dX0_step_91 : decode cX0_step 91 = .ok (.getfield 13, 3) := by decide +kernel
theorem dX0_step_94 : decode cX0_step 94 = .ok (.iload_n 1, 1) := by decide +kernel
theorem dX0_step_95 : decode cX0_step 95 = .ok (.iconst 4, 1) := by decide +kernel
theorem dX0_step_96 : decode cX0_step 96 = .ok (.imul, 1) := by decide +kernel
theorem dX0_step_97 : decode cX0_step 97 = .ok (.aload_n 0, 1) := by decide +kernel
theorem dX0_step_98 : decode cX0_step 98 = .ok (.getfield 7, 3) := by decide +kernel
theorem dX0_step_101 : decode cX0_step 101 = .ok (.iload_n 1, 1) := by decide +kernel
theorem dX0_step_102 : decode cX0_step 102 = .ok (.baload, 1) := by decide +kernel
theorem dX0_step_103 : decode cX0_step 103 = .ok (.iadd, 1) := by decide +kernel
theorem dX0_step_104 : decode cX0_step 104 = .ok (.iload_n 2, 1) := by decide +kernel
theorem dX0_step_105 : decode cX0_step 105 = .ok (.i2b, 1) := by decide +kernel
theorem dX0_step_106 : decode cX0_step 106 = .ok (.bastore, 1) := by decide +kernel
theorem dX0_step_107 : decode cX0_step 107 = .ok (.aload_n 0, 1) := by decide +kernel
theorem dX0_step_108 : decode cX0_step 108 = .ok (.getfield 16, 3) := by decide +kernel
theorem dX0_step_111 : decode cX0_step 111 = .ok (.iload_n 1, 1) := by decide +kernel
theorem dX0_step_112 : decode cX0_step 112 = .ok (.iconst 4, 1) := by decide +kernel
theorem dX0_step_113 : decode cX0_step 113 = .ok (.imul, 1) := by decide +kernel
theorem dX0_step_114 : decode cX0_step 114 = .ok (.aload_n 0, 1) := by decide +kernel
theorem dX0_step_115 : decode cX0_step 115 = .ok (.getfield 7, 3) := by decide +kernel
theorem dX0_step_118 : decode cX0_step 118 = .ok (.iload_n 1, 1) := by decide +kernel
theorem dX0_step_119 : decode cX0_step 119 = .ok (.baload, 1) := by decide +kernel
theorem dX0_step_120 : decode cX0_step 120 = .ok (.iadd, 1) := by decide +kernel
theorem dX0_step_121 : decode cX0_step 121 = .ok (.iload_n 3, 1) := by decide +kernel
theorem dX0_step_122 : decode cX0_step 122 = .ok (.iastore, 1) := by decide +kernel
theorem dX0_step_123 : decode cX0_step 123 = .ok (.aload_n 0, 1) := by decide +kernel
theorem dX0_step_124 : decode cX0_step 124 = .ok (.getfield 7, 3) := by decide +kernel
theorem dX0_step_127 : decode cX0_step 127 = .ok (.iload_n 1, 1) := by decide +kernel
theorem dX0_step_128 : decode cX0_step 128 = .ok (.dup2, 1) := by decide +kernel
theorem dX0_step_129 : decode cX0_step 129 = .ok (.baload, 1) := by decide +kernel
theorem dX0_step_130 : decode cX0_step 130 = .ok (.iconst 1, 1) := by decide +kernel
theorem dX0_step_131 : decode cX0_step 131 = .ok (.iadd, 1) := by decide +kernel
theorem dX0_step_132 : decode cX0_step 132 = .ok (.i2b, 1) := by decide +kernel
theorem dX0_step_133 : decode cX0_step 133 = .ok (.bastore, 1) := by decide +kernel
theorem dX0_step_134 : decode cX0_step 134 = .ok (.aload_n 0, 1) := by decide +kernel
theorem dX0_step_135 : decode cX0_step 135 = .ok (.getfield 7, 3) := by decide +kernel
theorem dX0_step_138 : decode cX0_step 138 = .ok (.iload_n 1, 1) := by decide +kernel
theorem dX0_step_139 : decode cX0_step 139 = .ok (.baload, 1) := by decide +kernel
theorem dX0_step_140 : decode cX0_step 140 = .ok (.iconst 1, 1) := by decide +kernel
theorem dX0_step_141 : decode cX0_step 141 = .ok (.isub, 1) := by decide +kernel
theorem dX0_step_142 : decode cX0_step 142 = .ok (.ireturn, 1) := by decide +kernel
theorem dX0_isIndex_0 : decode cX0_isIndex 0 = .ok (.iload_n 0, 1) := by decide +kernel
theorem dX0_isIndex_1 : decode cX0_isIndex 1 = .ok (.ifCond .lt 12, 3) := by decide +kernel
theorem dX0_isIndex_4 : decode cX0_isIndex 4 = .ok (.iload_n 0, 1) := by decide +kernel
theorem dX0_isIndex_5 : decode cX0_isIndex 5 = .ok (.iconst 3, 1) := by decide +kernel
theorem dX0_isIndex_6 : decode cX0_isIndex 6 = .ok (.if_icmp .ge 7, 3) := by decide +kernel
theorem dX0_isIndex_9 : decode cX0_isIndex 9 = .ok (.iconst 1, 1) := by decide +kernel
theorem dX0_isIndex_10 : decode cX0_isIndex 10 = .ok (.goto 4, 3) := by decide +kernel
theorem dX0_isIndex_13 : decode cX0_isIndex 13 = .ok (.iconst 0, 1) := by decide +kernel
theorem dX0_isIndex_14 : decode cX0_isIndex 14 = .ok (.ireturn, 1) := by decide +kernel
theorem dX0_drop_0 : decode cX0_drop 0 = .ok (.iload_n 1, 1) := by decide +kernel
theorem dX0_drop_1 : decode cX0_drop 1 = .ok (.invokestatic 56, 3) := by decide +kernel
theorem dX0_drop_4 : decode cX0_drop 4 = .ok (.ifCond .eq 12, 3) := by decide +kernel
theorem dX0_drop_7 : decode cX0_drop 7 = .ok (.aload_n 0, 1) := by decide +kernel
theorem dX0_drop_8 : decode cX0_drop 8 = .ok (.getfield 7, 3) := by decide +kernel
theorem dX0_drop_11 : decode cX0_drop 11 = .ok (.iload_n 1, 1) := by decide +kernel
theorem dX0_drop_12 : decode cX0_drop 12 = .ok (.baload, 1) := by decide +kernel
theorem dX0_drop_13 : decode cX0_drop 13 = .ok (.ifCond .ne 5, 3) := by decide +kernel
theorem dX0_drop_16 : decode cX0_drop 16 = .ok (.iconst (-1), 1) := by decide +kernel
theorem dX0_drop_17 : decode cX0_drop 17 = .ok (.ireturn, 1) := by decide +kernel
theorem dX0_drop_18 : decode cX0_drop 18 = .ok (.aload_n 0, 1) := by decide +kernel
theorem dX0_drop_19 : decode cX0_drop 19 = .ok (.getfield 7, 3) := by decide +kernel
theorem dX0_drop_22 : decode cX0_drop 22 = .ok (.iload_n 1, 1) := by decide +kernel
theorem dX0_drop_23 : decode cX0_drop 23 = .ok (.dup2, 1) := by decide +kernel
theorem dX0_drop_24 : decode cX0_drop 24 = .ok (.baload, 1) := by decide +kernel
theorem dX0_drop_25 : decode cX0_drop 25 = .ok (.iconst 1, 1) := by decide +kernel
theorem dX0_drop_26 : decode cX0_drop 26 = .ok (.isub, 1) := by decide +kernel
theorem dX0_drop_27 : decode cX0_drop 27 = .ok (.i2b, 1) := by decide +kernel
theorem dX0_drop_28 : decode cX0_drop 28 = .ok (.bastore, 1) := by decide +kernel
theorem dX0_drop_29 : decode cX0_drop 29 = .ok (.aload_n 0, 1) := by decide +kernel
theorem dX0_drop_30 : decode cX0_drop 30 = .ok (.getfield 7, 3) := by decide +kernel
theorem dX0_drop_33 : decode cX0_drop 33 = .ok (.iload_n 1, 1) := by decide +kernel
theorem dX0_drop_34 : decode cX0_drop 34 = .ok (.baload, 1) := by decide +kernel
theorem dX0_drop_35 : decode cX0_drop 35 = .ok (.ireturn, 1) := by decide +kernel
theorem dX0_begin_0 : decode cX0_begin 0 = .ok (.iload_n 2, 1) := by decide +kernel
theorem dX0_begin_1 : decode cX0_begin 1 = .ok (.invokestatic 56, 3) := by decide +kernel
theorem dX0_begin_4 : decode cX0_begin 4 = .ok (.ifCond .eq 12, 3) := by decide +kernel
theorem dX0_begin_7 : decode cX0_begin 7 = .ok (.iload_n 1, 1) := by decide +kernel
theorem dX0_begin_8 : decode cX0_begin 8 = .ok (.ifCond .lt 8, 3) := by decide +kernel
theorem dX0_begin_11 : decode cX0_begin 11 = .ok (.iload_n 1, 1) := by decide +kernel
theorem dX0_begin_12 : decode cX0_begin 12 = .ok (.iconst 1, 1) := by decide +kernel
theorem dX0_begin_13 : decode cX0_begin 13 = .ok (.if_icmp .le 5, 3) := by decide +kernel
theorem dX0_begin_16 : decode cX0_begin 16 = .ok (.iconst 0, 1) := by decide +kernel
theorem dX0_begin_17 : decode cX0_begin 17 = .ok (.ireturn, 1) := by decide +kernel
theorem dX0_begin_18 : decode cX0_begin 18 = .ok (.iload_n 1, 1) := by decide +kernel
theorem dX0_begin_19 : decode cX0_begin 19 = .ok (.ifCond .ne 13, 3) := by decide +kernel
theorem dX0_begin_22 : decode cX0_begin 22 = .ok (.aload_n 0, 1) := by decide +kernel
theorem dX0_begin_23 : decode cX0_begin 23 = .ok (.getfield 20, 3) := by decide +kernel
theorem dX0_begin_26 : decode cX0_begin 26 = .ok (.iload_n 2, 1) := by decide +kernel
theorem dX0_begin_27 : decode cX0_begin 27 = .ok (.iload_n 3, 1) := by decide +kernel
theorem dX0_begin_28 : decode cX0_begin 28 = .ok (.iastore, 1) := by decide +kernel
theorem dX0_begin_29 : decode cX0_begin 29 = .ok (.goto 10, 3) := by decide +kernel
theorem dX0_begin_32 : decode cX0_begin 32 = .ok (.aload_n 0, 1) := by decide +kernel
theorem dX0_begin_33 : decode cX0_begin 33 = .ok (.getfield 23, 3) := by decide +kernel
theorem dX0_begin_36 : decode cX0_begin 36 = .ok (.iload_n 2, 1) := by decide +kernel
theorem dX0_begin_37 : decode cX0_begin 37 = .ok (.iload_n 3, 1) := by decide +kernel
theorem dX0_begin_38 : decode cX0_begin 38 = .ok (.iastore, 1) := by decide +kernel
theorem dX0_begin_39 : decode cX0_begin 39 = .ok (.iconst 1, 1) := by decide +kernel
theorem dX0_begin_40 : decode cX0_begin 40 = .ok (.ireturn, 1) := by decide +kernel
theorem dX0_length_0 : decode cX0_length 0 = .ok (.iload_n 1, 1) := by decide +kernel
theorem dX0_length_1 : decode cX0_length 1 = .ok (.invokestatic 56, 3) := by decide +kernel
theorem dX0_length_4 : decode cX0_length 4 = .ok (.ifCond .eq 12, 3) := by decide +kernel
theorem dX0_length_7 : decode cX0_length 7 = .ok (.aload_n 0, 1) := by decide +kernel
theorem dX0_length_8 : decode cX0_length 8 = .ok (.getfield 7, 3) := by decide +kernel
theorem dX0_length_11 : decode cX0_length 11 = .ok (.iload_n 1, 1) := by decide +kernel
theorem dX0_length_12 : decode cX0_length 12 = .ok (.baload, 1) := by decide +kernel
theorem dX0_length_13 : decode cX0_length 13 = .ok (.goto 4, 3) := by decide +kernel
theorem dX0_length_16 : decode cX0_length 16 = .ok (.iconst (-1), 1) := by decide +kernel
theorem dX0_length_17 : decode cX0_length 17 = .ok (.ireturn, 1) := by decide +kernel
theorem dX0_schedules_0 : decode cX0_schedules 0 = .ok (.aload_n 0, 1) := by decide +kernel
theorem dX0_schedules_1 : decode cX0_schedules 1 = .ok (.iconst 0, 1) := by decide +kernel
theorem dX0_schedules_2 : decode cX0_schedules 2 = .ok (.invokevirtual 72, 3) := by decide +kernel
theorem dX0_schedules_5 : decode cX0_schedules 5 = .ok (.ireturn, 1) := by decide +kernel
theorem dX0_countWays_0 : decode cX0_countWays 0 = .ok (.iconst 0, 1) := by decide +kernel
theorem dX0_countWays_1 : decode cX0_countWays 1 = .ok (.istore_n 2, 1) := by decide +kernel
theorem dX0_countWays_2 : decode cX0_countWays 2 = .ok (.iload_n 2, 1) := by decide +kernel
theorem dX0_countWays_3 : decode cX0_countWays 3 = .ok (.bipush 125, 2) := by decide +kernel
theorem dX0_countWays_5 : decode cX0_countWays 5 = .ok (.if_icmp .ge 24, 3) := by decide +kernel
theorem dX0_countWays_8 : decode cX0_countWays 8 = .ok (.aload_n 0, 1) := by decide +kernel
theorem dX0_countWays_9 : decode cX0_countWays 9 = .ok (.getfield 26, 3) := by decide +kernel
theorem dX0_countWays_12 : decode cX0_countWays 12 = .ok (.iload_n 2, 1) := by decide +kernel
theorem dX0_countWays_13 : decode cX0_countWays 13 = .ok (.iload_n 2, 1) := by decide +kernel
theorem dX0_countWays_14 : decode cX0_countWays 14 = .ok (.ifCond .ne 7, 3) := by decide +kernel
theorem dX0_countWays_17 : decode cX0_countWays 17 = .ok (.iconst 1, 1) := by decide +kernel
theorem dX0_countWays_18 : decode cX0_countWays 18 = .ok (.goto 4, 3) := by decide +kernel
theorem dX0_countWays_21 : decode cX0_countWays 21 = .ok (.iconst 0, 1) := by decide +kernel
theorem dX0_countWays_22 : decode cX0_countWays 22 = .ok (.iastore, 1) := by decide +kernel
theorem dX0_countWays_23 : decode cX0_countWays 23 = .ok (.iinc 2 1, 3) := by decide +kernel
theorem dX0_countWays_26 : decode cX0_countWays 26 = .ok (.goto (-24), 3) := by decide +kernel
theorem dX0_countWays_29 : decode cX0_countWays 29 = .ok (.iconst 0, 1) := by decide +kernel
theorem dX0_countWays_30 : decode cX0_countWays 30 = .ok (.istore_n 2, 1) := by decide +kernel
theorem dX0_countWays_31 : decode cX0_countWays 31 = .ok (.iconst 0, 1) := by decide +kernel
theorem dX0_countWays_32 : decode cX0_countWays 32 = .ok (.istore_n 3, 1) := by decide +kernel
theorem dX0_countWays_33 : decode cX0_countWays 33 = .ok (.iload_n 3, 1) := by decide +kernel
theorem dX0_countWays_34 : decode cX0_countWays 34 = .ok (.bipush 125, 2) := by decide +kernel
theorem dX0_countWays_36 : decode cX0_countWays 36 = .ok (.if_icmp .ge 160, 3) := by decide +kernel
theorem dX0_countWays_39 : decode cX0_countWays 39 = .ok (.iload_n 3, 1) := by decide +kernel
theorem dX0_countWays_40 : decode cX0_countWays 40 = .ok (.bipush 25, 2) := by decide +kernel
theorem dX0_countWays_42 : decode cX0_countWays 42 = .ok (.idiv, 1) := by decide +kernel
theorem dX0_countWays_43 : decode cX0_countWays 43 = .ok (.istore 4, 2) := by decide +kernel
theorem dX0_countWays_45 : decode cX0_countWays 45 = .ok (.iload_n 3, 1) := by decide +kernel
theorem dX0_countWays_46 : decode cX0_countWays 46 = .ok (.iconst 5, 1) := by decide +kernel
theorem dX0_countWays_47 : decode cX0_countWays 47 = .ok (.idiv, 1) := by decide +kernel
theorem dX0_countWays_48 : decode cX0_countWays 48 = .ok (.iconst 5, 1) := by decide +kernel
theorem dX0_countWays_49 : decode cX0_countWays 49 = .ok (.irem, 1) := by decide +kernel
theorem dX0_countWays_50 : decode cX0_countWays 50 = .ok (.istore 5, 2) := by decide +kernel
theorem dX0_countWays_52 : decode cX0_countWays 52 = .ok (.iload_n 3, 1) := by decide +kernel
theorem dX0_countWays_53 : decode cX0_countWays 53 = .ok (.iconst 5, 1) := by decide +kernel
theorem dX0_countWays_54 : decode cX0_countWays 54 = .ok (.irem, 1) := by decide +kernel
theorem dX0_countWays_55 : decode cX0_countWays 55 = .ok (.istore 6, 2) := by decide +kernel
theorem dX0_countWays_57 : decode cX0_countWays 57 = .ok (.iconst 0, 1) := by decide +kernel
theorem dX0_countWays_58 : decode cX0_countWays 58 = .ok (.istore 7, 2) := by decide +kernel
theorem dX0_countWays_60 : decode cX0_countWays 60 = .ok (.iconst 0, 1) := by decide +kernel
theorem dX0_countWays_61 : decode cX0_countWays 61 = .ok (.istore 8, 2) := by decide +kernel
theorem dX0_countWays_63 : decode cX0_countWays 63 = .ok (.iload 8, 2) := by decide +kernel
theorem dX0_countWays_65 : decode cX0_countWays 65 = .ok (.iconst 3, 1) := by decide +kernel
theorem dX0_countWays_66 : decode cX0_countWays 66 = .ok (.if_icmp .ge 57, 3) := by decide +kernel
theorem dX0_countWays_69 : decode cX0_countWays 69 = .ok (.aload_n 0, 1) := by decide +kernel
theorem dX0_countWays_70 : decode cX0_countWays 70 = .ok (.getfield 26, 3) := by decide +kernel
theorem dX0_countWays_73 : decode cX0_countWays 73 = .ok (.iload_n 3, 1) := by decide +kernel
theorem dX0_countWays_74 : decode cX0_countWays 74 = .ok (.iaload, 1) := by decide +kernel
theorem dX0_countWays_75 : decode cX0_countWays 75 = .ok (.ifCond .le 48, 3) := by decide +kernel
theorem dX0_countWays_78 : decode cX0_countWays 78 = .ok (.aload_n 0, 1) := by decide +kernel
theorem dX0_countWays_79 : decode cX0_countWays 79 = .ok (.iload 8, 2) := by decide +kernel
theorem dX0_countWays_81 : decode cX0_countWays 81 = .ok (.iload 4, 2) := by decide +kernel
theorem dX0_countWays_83 : decode cX0_countWays 83 = .ok (.iload 5, 2) := by decide +kernel
theorem dX0_countWays_85 : decode cX0_countWays 85 = .ok (.iload 6, 2) := by decide +kernel
theorem dX0_countWays_87 : decode cX0_countWays 87 = .ok (.invokevirtual 64, 3) := by decide +kernel
theorem dX0_countWays_90 : decode cX0_countWays 90 = .ok (.ifCond .eq 27, 3) := by decide +kernel
theorem dX0_countWays_93 : decode cX0_countWays 93 = .ok (.iconst 1, 1) := by decide +kernel
theorem dX0_countWays_94 : decode cX0_countWays 94 = .ok (.istore 7, 2) := by decide +kernel
theorem dX0_countWays_96 : decode cX0_countWays 96 = .ok (.aload_n 0, 1) := by decide +kernel
theorem dX0_countWays_97 : decode cX0_countWays 97 = .ok (.getfield 26, 3) := by decide +kernel
theorem dX0_countWays_100 : decode cX0_countWays 100 = .ok (.iload_n 3, 1) := by decide +kernel
theorem dX0_countWays_101 : decode cX0_countWays 101 = .ok (.iload 8, 2) := by decide +kernel
theorem dX0_countWays_103 : decode cX0_countWays 103 = .ok (.invokestatic 68, 3) := by decide +kernel
theorem dX0_countWays_106 : decode cX0_countWays 106 = .ok (.iadd, 1) := by decide +kernel
theorem dX0_countWays_107 : decode cX0_countWays 107 = .ok (.dup2, 1) := by decide +kernel
end
section
set_option maxRecDepth 100000
theorem dX0_countWays_108 : decode cX0_countWays 108 = .ok (.iaload, 1) := by decide +kernel
theorem dX0_countWays_109 : decode cX0_countWays 109 = .ok (.aload_n 0, 1) := by decide +kernel
theorem dX0_countWays_110 : decode cX0_countWays 110 = .ok (.getfield 26, 3) := by decide +kernel
theorem dX0_countWays_113 : decode cX0_countWays 113 = .ok (.iload_n 3, 1) := by decide +kernel
theorem dX0_countWays_114 : decode cX0_countWays 114 = .ok (.iaload, 1) := by decide +kernel
theorem dX0_countWays_115 : decode cX0_countWays 115 = .ok (.iadd, 1) := by decide +kernel
theorem dX0_countWays_116 : decode cX0_countWays 116 = .ok (.iastore, 1) := by decide +kernel
theorem dX0_countWays_117 : decode cX0_countWays 117 = .ok (.iinc 8 1, 3) := by decide +kernel
theorem dX0_countWays_120 : decode cX0_countWays 120 = .ok (.goto (-57), 3) := by decide +kernel
theorem dX0_countWays_123 : decode cX0_countWays 123 = .ok (.iload 4, 2) := by decide +kernel
theorem dX0_countWays_125 : decode cX0_countWays 125 = .ok (.aload_n 0, 1) := by decide +kernel
theorem dX0_countWays_126 : decode cX0_countWays 126 = .ok (.getfield 7, 3) := by decide +kernel
theorem dX0_countWays_129 : decode cX0_countWays 129 = .ok (.iconst 0, 1) := by decide +kernel
theorem dX0_countWays_130 : decode cX0_countWays 130 = .ok (.baload, 1) := by decide +kernel
theorem dX0_countWays_131 : decode cX0_countWays 131 = .ok (.if_icmp .ne 29, 3) := by decide +kernel
theorem dX0_countWays_134 : decode cX0_countWays 134 = .ok (.iload 5, 2) := by decide +kernel
theorem dX0_countWays_136 : decode cX0_countWays 136 = .ok (.aload_n 0, 1) := by decide +kernel
theorem dX0_countWays_137 : decode cX0_countWays 137 = .ok (.getfield 7, 3) := by decide +kernel
theorem dX0_countWays_140 : decode cX0_countWays 140 = .ok (.iconst 1, 1) := by decide +kernel
theorem dX0_countWays_141 : decode cX0_countWays 141 = .ok (.baload, 1) := by decide +kernel
theorem dX0_countWays_142 : decode cX0_countWays 142 = .ok (.if_icmp .ne 18, 3) := by decide +kernel
theorem dX0_countWays_145 : decode cX0_countWays 145 = .ok (.iload 6, 2) := by decide +kernel
theorem dX0_countWays_147 : decode cX0_countWays 147 = .ok (.aload_n 0, 1) := by decide +kernel
theorem dX0_countWays_148 : decode cX0_countWays 148 = .ok (.getfield 7, 3) := by decide +kernel
theorem dX0_countWays_151 : decode cX0_countWays 151 = .ok (.iconst 2, 1) := by decide +kernel
theorem dX0_countWays_152 : decode cX0_countWays 152 = .ok (.baload, 1) := by decide +kernel
theorem dX0_countWays_153 : decode cX0_countWays 153 = .ok (.if_icmp .ne 7, 3) := by decide +kernel
theorem dX0_countWays_156 : decode cX0_countWays 156 = .ok (.iconst 1, 1) := by decide +kernel
theorem dX0_countWays_157 : decode cX0_countWays 157 = .ok (.goto 4, 3) := by decide +kernel
theorem dX0_countWays_160 : decode cX0_countWays 160 = .ok (.iconst 0, 1) := by decide +kernel
theorem dX0_countWays_161 : decode cX0_countWays 161 = .ok (.istore 8, 2) := by decide +kernel
theorem dX0_countWays_163 : decode cX0_countWays 163 = .ok (.iload_n 2, 1) := by decide +kernel
theorem dX0_countWays_164 : decode cX0_countWays 164 = .ok (.iload 7, 2) := by decide +kernel
theorem dX0_countWays_166 : decode cX0_countWays 166 = .ok (.ifCond .ne 12, 3) := by decide +kernel
theorem dX0_countWays_169 : decode cX0_countWays 169 = .ok (.iload_n 1, 1) := by decide +kernel
theorem dX0_countWays_170 : decode cX0_countWays 170 = .ok (.ifCond .eq 12, 3) := by decide +kernel
theorem dX0_countWays_173 : decode cX0_countWays 173 = .ok (.iload 8, 2) := by decide +kernel
theorem dX0_countWays_175 : decode cX0_countWays 175 = .ok (.ifCond .eq 7, 3) := by decide +kernel
theorem dX0_countWays_178 : decode cX0_countWays 178 = .ok (.iconst 0, 1) := by decide +kernel
theorem dX0_countWays_179 : decode cX0_countWays 179 = .ok (.goto 9, 3) := by decide +kernel
theorem dX0_countWays_182 : decode cX0_countWays 182 = .ok (.aload_n 0, 1) := by decide +kernel
theorem dX0_countWays_183 : decode cX0_countWays 183 = .ok (.getfield 26, 3) := by decide +kernel
theorem dX0_countWays_186 : decode cX0_countWays 186 = .ok (.iload_n 3, 1) := by decide +kernel
theorem dX0_countWays_187 : decode cX0_countWays 187 = .ok (.iaload, 1) := by decide +kernel
theorem dX0_countWays_188 : decode cX0_countWays 188 = .ok (.iadd, 1) := by decide +kernel
theorem dX0_countWays_189 : decode cX0_countWays 189 = .ok (.istore_n 2, 1) := by decide +kernel
theorem dX0_countWays_190 : decode cX0_countWays 190 = .ok (.iinc 3 1, 3) := by decide +kernel
theorem dX0_countWays_193 : decode cX0_countWays 193 = .ok (.goto (-160), 3) := by decide +kernel
theorem dX0_countWays_196 : decode cX0_countWays 196 = .ok (.iload_n 2, 1) := by decide +kernel
theorem dX0_countWays_197 : decode cX0_countWays 197 = .ok (.ireturn, 1) := by decide +kernel
theorem dX0_canTurn_0 : decode cX0_canTurn 0 = .ok (.iload_n 1, 1) := by decide +kernel
theorem dX0_canTurn_1 : decode cX0_canTurn 1 = .ok (.ifCond .ne 7, 3) := by decide +kernel
theorem dX0_canTurn_4 : decode cX0_canTurn 4 = .ok (.iload_n 2, 1) := by decide +kernel
theorem dX0_canTurn_5 : decode cX0_canTurn 5 = .ok (.goto 14, 3) := by decide +kernel
theorem dX0_canTurn_8 : decode cX0_canTurn 8 = .ok (.iload_n 1, 1) := by decide +kernel
theorem dX0_canTurn_9 : decode cX0_canTurn 9 = .ok (.iconst 1, 1) := by decide +kernel
theorem dX0_canTurn_10 : decode cX0_canTurn 10 = .ok (.if_icmp .ne 7, 3) := by decide +kernel
theorem dX0_canTurn_13 : decode cX0_canTurn 13 = .ok (.iload_n 3, 1) := by decide +kernel
theorem dX0_canTurn_14 : decode cX0_canTurn 14 = .ok (.goto 5, 3) := by decide +kernel
theorem dX0_canTurn_17 : decode cX0_canTurn 17 = .ok (.iload 4, 2) := by decide +kernel
theorem dX0_canTurn_19 : decode cX0_canTurn 19 = .ok (.istore 5, 2) := by decide +kernel
theorem dX0_canTurn_21 : decode cX0_canTurn 21 = .ok (.iload 5, 2) := by decide +kernel
theorem dX0_canTurn_23 : decode cX0_canTurn 23 = .ok (.aload_n 0, 1) := by decide +kernel
theorem dX0_canTurn_24 : decode cX0_canTurn 24 = .ok (.getfield 7, 3) := by decide +kernel
theorem dX0_canTurn_27 : decode cX0_canTurn 27 = .ok (.iload_n 1, 1) := by decide +kernel
theorem dX0_canTurn_28 : decode cX0_canTurn 28 = .ok (.baload, 1) := by decide +kernel
theorem dX0_canTurn_29 : decode cX0_canTurn 29 = .ok (.if_icmp .lt 5, 3) := by decide +kernel
theorem dX0_canTurn_32 : decode cX0_canTurn 32 = .ok (.iconst 0, 1) := by decide +kernel
theorem dX0_canTurn_33 : decode cX0_canTurn 33 = .ok (.ireturn, 1) := by decide +kernel
theorem dX0_canTurn_34 : decode cX0_canTurn 34 = .ok (.iload_n 1, 1) := by decide +kernel
theorem dX0_canTurn_35 : decode cX0_canTurn 35 = .ok (.iconst 4, 1) := by decide +kernel
theorem dX0_canTurn_36 : decode cX0_canTurn 36 = .ok (.imul, 1) := by decide +kernel
theorem dX0_canTurn_37 : decode cX0_canTurn 37 = .ok (.iload 5, 2) := by decide +kernel
theorem dX0_canTurn_39 : decode cX0_canTurn 39 = .ok (.iadd, 1) := by decide +kernel
theorem dX0_canTurn_40 : decode cX0_canTurn 40 = .ok (.istore 6, 2) := by decide +kernel
theorem dX0_canTurn_42 : decode cX0_canTurn 42 = .ok (.aload_n 0, 1) := by decide +kernel
theorem dX0_canTurn_43 : decode cX0_canTurn 43 = .ok (.getfield 13, 3) := by decide +kernel
theorem dX0_canTurn_46 : decode cX0_canTurn 46 = .ok (.iload 6, 2) := by decide +kernel
theorem dX0_canTurn_48 : decode cX0_canTurn 48 = .ok (.baload, 1) := by decide +kernel
theorem dX0_canTurn_49 : decode cX0_canTurn 49 = .ok (.iconst 4, 1) := by decide +kernel
theorem dX0_canTurn_50 : decode cX0_canTurn 50 = .ok (.if_icmp .eq 5, 3) := by decide +kernel
theorem dX0_canTurn_53 : decode cX0_canTurn 53 = .ok (.iconst 1, 1) := by decide +kernel
theorem dX0_canTurn_54 : decode cX0_canTurn 54 = .ok (.ireturn, 1) := by decide +kernel
theorem dX0_canTurn_55 : decode cX0_canTurn 55 = .ok (.aload_n 0, 1) := by decide +kernel
theorem dX0_canTurn_56 : decode cX0_canTurn 56 = .ok (.getfield 16, 3) := by decide +kernel
theorem dX0_canTurn_59 : decode cX0_canTurn 59 = .ok (.iload 6, 2) := by decide +kernel
theorem dX0_canTurn_61 : decode cX0_canTurn 61 = .ok (.iaload, 1) := by decide +kernel
theorem dX0_canTurn_62 : decode cX0_canTurn 62 = .ok (.istore 7, 2) := by decide +kernel
theorem dX0_canTurn_64 : decode cX0_canTurn 64 = .ok (.aload_n 0, 1) := by decide +kernel
theorem dX0_canTurn_65 : decode cX0_canTurn 65 = .ok (.iconst 0, 1) := by decide +kernel
theorem dX0_canTurn_66 : decode cX0_canTurn 66 = .ok (.iload_n 2, 1) := by decide +kernel
theorem dX0_canTurn_67 : decode cX0_canTurn 67 = .ok (.iload 7, 2) := by decide +kernel
theorem dX0_canTurn_69 : decode cX0_canTurn 69 = .ok (.invokevirtual 60, 3) := by decide +kernel
theorem dX0_canTurn_72 : decode cX0_canTurn 72 = .ok (.ifCond .ne 30, 3) := by decide +kernel
theorem dX0_canTurn_75 : decode cX0_canTurn 75 = .ok (.aload_n 0, 1) := by decide +kernel
theorem dX0_canTurn_76 : decode cX0_canTurn 76 = .ok (.iconst 1, 1) := by decide +kernel
theorem dX0_canTurn_77 : decode cX0_canTurn 77 = .ok (.iload_n 3, 1) := by decide +kernel
theorem dX0_canTurn_78 : decode cX0_canTurn 78 = .ok (.iload 7, 2) := by decide +kernel
theorem dX0_canTurn_80 : decode cX0_canTurn 80 = .ok (.invokevirtual 60, 3) := by decide +kernel
theorem dX0_canTurn_83 : decode cX0_canTurn 83 = .ok (.ifCond .ne 19, 3) := by decide +kernel
theorem dX0_canTurn_86 : decode cX0_canTurn 86 = .ok (.aload_n 0, 1) := by decide +kernel
theorem dX0_canTurn_87 : decode cX0_canTurn 87 = .ok (.iconst 2, 1) := by decide +kernel
theorem dX0_canTurn_88 : decode cX0_canTurn 88 = .ok (.iload 4, 2) := by decide +kernel
theorem dX0_canTurn_90 : decode cX0_canTurn 90 = .ok (.iload 7, 2) := by decide +kernel
theorem dX0_canTurn_92 : decode cX0_canTurn 92 = .ok (.invokevirtual 60, 3) := by decide +kernel
theorem dX0_canTurn_95 : decode cX0_canTurn 95 = .ok (.ifCond .ne 7, 3) := by decide +kernel
theorem dX0_canTurn_98 : decode cX0_canTurn 98 = .ok (.iconst 1, 1) := by decide +kernel
theorem dX0_canTurn_99 : decode cX0_canTurn 99 = .ok (.goto 4, 3) := by decide +kernel
theorem dX0_canTurn_102 : decode cX0_canTurn 102 = .ok (.iconst 0, 1) := by decide +kernel
theorem dX0_canTurn_103 : decode cX0_canTurn 103 = .ok (.ireturn, 1) := by decide +kernel
theorem dX0_holds_0 : decode cX0_holds 0 = .ok (.iconst 0, 1) := by decide +kernel
theorem dX0_holds_1 : decode cX0_holds 1 = .ok (.istore 4, 2) := by decide +kernel
theorem dX0_holds_3 : decode cX0_holds 3 = .ok (.iconst 0, 1) := by decide +kernel
theorem dX0_holds_4 : decode cX0_holds 4 = .ok (.istore 5, 2) := by decide +kernel
theorem dX0_holds_6 : decode cX0_holds 6 = .ok (.iload 5, 2) := by decide +kernel
theorem dX0_holds_8 : decode cX0_holds 8 = .ok (.iload_n 2, 1) := by decide +kernel
theorem dX0_holds_9 : decode cX0_holds 9 = .ok (.if_icmp .ge 57, 3) := by decide +kernel
theorem dX0_holds_12 : decode cX0_holds 12 = .ok (.iload_n 1, 1) := by decide +kernel
theorem dX0_holds_13 : decode cX0_holds 13 = .ok (.iconst 4, 1) := by decide +kernel
theorem dX0_holds_14 : decode cX0_holds 14 = .ok (.imul, 1) := by decide +kernel
theorem dX0_holds_15 : decode cX0_holds 15 = .ok (.iload 5, 2) := by decide +kernel
theorem dX0_holds_17 : decode cX0_holds 17 = .ok (.iadd, 1) := by decide +kernel
theorem dX0_holds_18 : decode cX0_holds 18 = .ok (.istore 6, 2) := by decide +kernel
theorem dX0_holds_20 : decode cX0_holds 20 = .ok (.aload_n 0, 1) := by decide +kernel
theorem dX0_holds_21 : decode cX0_holds 21 = .ok (.getfield 16, 3) := by decide +kernel
theorem dX0_holds_24 : decode cX0_holds 24 = .ok (.iload 6, 2) := by decide +kernel
theorem dX0_holds_26 : decode cX0_holds 26 = .ok (.iaload, 1) := by decide +kernel
theorem dX0_holds_27 : decode cX0_holds 27 = .ok (.iload_n 3, 1) := by decide +kernel
theorem dX0_holds_28 : decode cX0_holds 28 = .ok (.if_icmp .ne 32, 3) := by decide +kernel
theorem dX0_holds_31 : decode cX0_holds 31 = .ok (.aload_n 0, 1) := by decide +kernel
theorem dX0_holds_32 : decode cX0_holds 32 = .ok (.getfield 13, 3) := by decide +kernel
theorem dX0_holds_35 : decode cX0_holds 35 = .ok (.iload 6, 2) := by decide +kernel
theorem dX0_holds_37 : decode cX0_holds 37 = .ok (.baload, 1) := by decide +kernel
theorem dX0_holds_38 : decode cX0_holds 38 = .ok (.iconst 4, 1) := by decide +kernel
theorem dX0_holds_39 : decode cX0_holds 39 = .ok (.if_icmp .lt 21, 3) := by decide +kernel
theorem dX0_holds_42 : decode cX0_holds 42 = .ok (.aload_n 0, 1) := by decide +kernel
theorem dX0_holds_43 : decode cX0_holds 43 = .ok (.getfield 13, 3) := by decide +kernel
theorem dX0_holds_46 : decode cX0_holds 46 = .ok (.iload 6, 2) := by decide +kernel
theorem dX0_holds_48 : decode cX0_holds 48 = .ok (.baload, 1) := by decide +kernel
theorem dX0_holds_49 : decode cX0_holds 49 = .ok (.iconst 4, 1) := by decide +kernel
theorem dX0_holds_50 : decode cX0_holds 50 = .ok (.if_icmp .ne 7, 3) := by decide +kernel
theorem dX0_holds_53 : decode cX0_holds 53 = .ok (.iconst 1, 1) := by decide +kernel
theorem dX0_holds_54 : decode cX0_holds 54 = .ok (.goto 4, 3) := by decide +kernel
theorem dX0_holds_57 : decode cX0_holds 57 = .ok (.iconst 0, 1) := by decide +kernel
theorem dX0_holds_58 : decode cX0_holds 58 = .ok (.istore 4, 2) := by decide +kernel
theorem dX0_holds_60 : decode cX0_holds 60 = .ok (.iinc 5 1, 3) := by decide +kernel
theorem dX0_holds_63 : decode cX0_holds 63 = .ok (.goto (-57), 3) := by decide +kernel
theorem dX0_holds_66 : decode cX0_holds 66 = .ok (.iload 4, 2) := by decide +kernel
theorem dX0_holds_68 : decode cX0_holds 68 = .ok (.ireturn, 1) := by decide +kernel
theorem dX0_stride_0 : decode cX0_stride 0 = .ok (.iload_n 0, 1) := by decide +kernel
theorem dX0_stride_1 : decode cX0_stride 1 = .ok (.ifCond .ne 6, 3) := by decide +kernel
theorem dX0_stride_4 : decode cX0_stride 4 = .ok (.bipush 25, 2) := by decide +kernel
theorem dX0_stride_6 : decode cX0_stride 6 = .ok (.ireturn, 1) := by decide +kernel
theorem dX0_stride_7 : decode cX0_stride 7 = .ok (.iload_n 0, 1) := by decide +kernel
theorem dX0_stride_8 : decode cX0_stride 8 = .ok (.iconst 1, 1) := by decide +kernel
theorem dX0_stride_9 : decode cX0_stride 9 = .ok (.if_icmp .ne 7, 3) := by decide +kernel
theorem dX0_stride_12 : decode cX0_stride 12 = .ok (.iconst 5, 1) := by decide +kernel
theorem dX0_stride_13 : decode cX0_stride 13 = .ok (.goto 4, 3) := by decide +kernel
theorem dX0_stride_16 : decode cX0_stride 16 = .ok (.iconst 1, 1) := by decide +kernel
theorem dX0_stride_17 : decode cX0_stride 17 = .ok (.ireturn, 1) := by decide +kernel
theorem dX0_classes_0 : decode cX0_classes 0 = .ok (.aload_n 0, 1) := by decide +kernel
theorem dX0_classes_1 : decode cX0_classes 1 = .ok (.invokevirtual 76, 3) := by decide +kernel
theorem dX0_classes_4 : decode cX0_classes 4 = .ok (.aload_n 0, 1) := by decide +kernel
theorem dX0_classes_5 : decode cX0_classes 5 = .ok (.getfield 79, 3) := by decide +kernel
theorem dX0_classes_8 : decode cX0_classes 8 = .ok (.ireturn, 1) := by decide +kernel
theorem dX0_walkAll_0 : decode cX0_walkAll 0 = .ok (.aload_n 0, 1) := by decide +kernel
theorem dX0_walkAll_1 : decode cX0_walkAll 1 = .ok (.iconst 0, 1) := by decide +kernel
theorem dX0_walkAll_2 : decode cX0_walkAll 2 = .ok (.putfield 88, 3) := by decide +kernel
theorem dX0_walkAll_5 : decode cX0_walkAll 5 = .ok (.aload_n 0, 1) := by decide +kernel
theorem dX0_walkAll_6 : decode cX0_walkAll 6 = .ok (.invokevirtual 125, 3) := by decide +kernel
theorem dX0_walkAll_9 : decode cX0_walkAll 9 = .ok (.return_, 1) := by decide +kernel
theorem dX0_walk_0 : decode cX0_walk 0 = .ok (.aload_n 0, 1) := by decide +kernel
theorem dX0_walk_1 : decode cX0_walk 1 = .ok (.iconst 0, 1) := by decide +kernel
theorem dX0_walk_2 : decode cX0_walk 2 = .ok (.putfield 79, 3) := by decide +kernel
theorem dX0_walk_5 : decode cX0_walk 5 = .ok (.aload_n 0, 1) := by decide +kernel
theorem dX0_walk_6 : decode cX0_walk 6 = .ok (.iconst 0, 1) := by decide +kernel
theorem dX0_walk_7 : decode cX0_walk 7 = .ok (.putfield 83, 3) := by decide +kernel
theorem dX0_walk_10 : decode cX0_walk 10 = .ok (.iconst 0, 1) := by decide +kernel
theorem dX0_walk_11 : decode cX0_walk 11 = .ok (.istore_n 1, 1) := by decide +kernel
theorem dX0_walk_12 : decode cX0_walk 12 = .ok (.iload_n 1, 1) := by decide +kernel
theorem dX0_walk_13 : decode cX0_walk 13 = .ok (.iconst 3, 1) := by decide +kernel
theorem dX0_walk_14 : decode cX0_walk 14 = .ok (.if_icmp .ge 40, 3) := by decide +kernel
theorem dX0_walk_17 : decode cX0_walk 17 = .ok (.aload_n 0, 1) := by decide +kernel
theorem dX0_walk_18 : decode cX0_walk 18 = .ok (.getfield 29, 3) := by decide +kernel
theorem dX0_walk_21 : decode cX0_walk 21 = .ok (.iload_n 1, 1) := by decide +kernel
theorem dX0_walk_22 : decode cX0_walk 22 = .ok (.iconst 0, 1) := by decide +kernel
theorem dX0_walk_23 : decode cX0_walk 23 = .ok (.bastore, 1) := by decide +kernel
theorem dX0_walk_24 : decode cX0_walk 24 = .ok (.aload_n 0, 1) := by decide +kernel
theorem dX0_walk_25 : decode cX0_walk 25 = .ok (.getfield 32, 3) := by decide +kernel
theorem dX0_walk_28 : decode cX0_walk 28 = .ok (.iload_n 1, 1) := by decide +kernel
theorem dX0_walk_29 : decode cX0_walk 29 = .ok (.aload_n 0, 1) := by decide +kernel
theorem dX0_walk_30 : decode cX0_walk 30 = .ok (.getfield 23, 3) := by decide +kernel
theorem dX0_walk_33 : decode cX0_walk 33 = .ok (.iload_n 1, 1) := by decide +kernel
theorem dX0_walk_34 : decode cX0_walk 34 = .ok (.iaload, 1) := by decide +kernel
theorem dX0_walk_35 : decode cX0_walk 35 = .ok (.iastore, 1) := by decide +kernel
theorem dX0_walk_36 : decode cX0_walk 36 = .ok (.aload_n 0, 1) := by decide +kernel
theorem dX0_walk_37 : decode cX0_walk 37 = .ok (.getfield 35, 3) := by decide +kernel
theorem dX0_walk_40 : decode cX0_walk 40 = .ok (.iload_n 1, 1) := by decide +kernel
theorem dX0_walk_41 : decode cX0_walk 41 = .ok (.aload_n 0, 1) := by decide +kernel
theorem dX0_walk_42 : decode cX0_walk 42 = .ok (.getfield 20, 3) := by decide +kernel
theorem dX0_walk_45 : decode cX0_walk 45 = .ok (.iload_n 1, 1) := by decide +kernel
theorem dX0_walk_46 : decode cX0_walk 46 = .ok (.iaload, 1) := by decide +kernel
theorem dX0_walk_47 : decode cX0_walk 47 = .ok (.iastore, 1) := by decide +kernel
theorem dX0_walk_48 : decode cX0_walk 48 = .ok (.iinc 1 1, 3) := by decide +kernel
theorem dX0_walk_51 : decode cX0_walk 51 = .ok (.goto (-39), 3) := by decide +kernel
theorem dX0_walk_54 : decode cX0_walk 54 = .ok (.aload_n 0, 1) := by decide +kernel
theorem dX0_walk_55 : decode cX0_walk 55 = .ok (.getfield 38, 3) := by decide +kernel
theorem dX0_walk_58 : decode cX0_walk 58 = .ok (.iconst 0, 1) := by decide +kernel
theorem dX0_walk_59 : decode cX0_walk 59 = .ok (.iconst 0, 1) := by decide +kernel
theorem dX0_walk_60 : decode cX0_walk 60 = .ok (.bastore, 1) := by decide +kernel
theorem dX0_walk_61 : decode cX0_walk 61 = .ok (.aload_n 0, 1) := by decide +kernel
theorem dX0_walk_62 : decode cX0_walk 62 = .ok (.getfield 41, 3) := by decide +kernel
theorem dX0_walk_65 : decode cX0_walk 65 = .ok (.iconst 0, 1) := by decide +kernel
theorem dX0_walk_66 : decode cX0_walk 66 = .ok (.iconst 0, 1) := by decide +kernel
theorem dX0_walk_67 : decode cX0_walk 67 = .ok (.bastore, 1) := by decide +kernel
theorem dX0_walk_68 : decode cX0_walk 68 = .ok (.iconst 0, 1) := by decide +kernel
theorem dX0_walk_69 : decode cX0_walk 69 = .ok (.istore_n 1, 1) := by decide +kernel
theorem dX0_walk_70 : decode cX0_walk 70 = .ok (.iconst 0, 1) := by decide +kernel
theorem dX0_walk_71 : decode cX0_walk 71 = .ok (.istore_n 2, 1) := by decide +kernel
theorem dX0_walk_72 : decode cX0_walk 72 = .ok (.iload_n 2, 1) := by decide +kernel
theorem dX0_walk_73 : decode cX0_walk 73 = .ok (.ldc 87, 2) := by decide +kernel
theorem dX0_walk_75 : decode cX0_walk 75 = .ok (.if_icmp .ge 105, 3) := by decide +kernel
theorem dX0_walk_78 : decode cX0_walk 78 = .ok (.iload_n 1, 1) := by decide +kernel
theorem dX0_walk_79 : decode cX0_walk 79 = .ok (.ifCond .lt 101, 3) := by decide +kernel
theorem dX0_walk_82 : decode cX0_walk 82 = .ok (.aload_n 0, 1) := by decide +kernel
theorem dX0_walk_83 : decode cX0_walk 83 = .ok (.getfield 88, 3) := by decide +kernel
theorem dX0_walk_86 : decode cX0_walk 86 = .ok (.ifCond .eq 10, 3) := by decide +kernel
theorem dX0_walk_89 : decode cX0_walk 89 = .ok (.aload_n 0, 1) := by decide +kernel
theorem dX0_walk_90 : decode cX0_walk 90 = .ok (.getfield 83, 3) := by decide +kernel
theorem dX0_walk_93 : decode cX0_walk 93 = .ok (.ifCond .ne 87, 3) := by decide +kernel
theorem dX0_walk_96 : decode cX0_walk 96 = .ok (.aload_n 0, 1) := by decide +kernel
theorem dX0_walk_97 : decode cX0_walk 97 = .ok (.iload_n 1, 1) := by decide +kernel
theorem dX0_walk_98 : decode cX0_walk 98 = .ok (.invokevirtual 91, 3) := by decide +kernel
theorem dX0_walk_101 : decode cX0_walk 101 = .ok (.istore_n 3, 1) := by decide +kernel
theorem dX0_walk_102 : decode cX0_walk 102 = .ok (.iload_n 3, 1) := by decide +kernel
theorem dX0_walk_103 : decode cX0_walk 103 = .ok (.ifCond .ne 8, 3) := by decide +kernel
theorem dX0_walk_106 : decode cX0_walk 106 = .ok (.aload_n 0, 1) := by decide +kernel
theorem dX0_walk_107 : decode cX0_walk 107 = .ok (.iload_n 1, 1) := by decide +kernel
theorem dX0_walk_108 : decode cX0_walk 108 = .ok (.invokevirtual 94, 3) := by decide +kernel
theorem dX0_walk_111 : decode cX0_walk 111 = .ok (.iload_n 3, 1) := by decide +kernel
theorem dX0_walk_112 : decode cX0_walk 112 = .ok (.aload_n 0, 1) := by decide +kernel
theorem dX0_walk_113 : decode cX0_walk 113 = .ok (.getfield 38, 3) := by decide +kernel
theorem dX0_walk_116 : decode cX0_walk 116 = .ok (.iload_n 1, 1) := by decide +kernel
theorem dX0_walk_117 : decode cX0_walk 117 = .ok (.baload, 1) := by decide +kernel
theorem dX0_walk_118 : decode cX0_walk 118 = .ok (.iconst (-1), 1) := by decide +kernel
theorem dX0_walk_119 : decode cX0_walk 119 = .ok (.ixor, 1) := by decide +kernel
theorem dX0_walk_120 : decode cX0_walk 120 = .ok (.iand, 1) := by decide +kernel
theorem dX0_walk_121 : decode cX0_walk 121 = .ok (.aload_n 0, 1) := by decide +kernel
theorem dX0_walk_122 : decode cX0_walk 122 = .ok (.getfield 41, 3) := by decide +kernel
theorem dX0_walk_125 : decode cX0_walk 125 = .ok (.iload_n 1, 1) := by decide +kernel
theorem dX0_walk_126 : decode cX0_walk 126 = .ok (.baload, 1) := by decide +kernel
theorem dX0_walk_127 : decode cX0_walk 127 = .ok (.iconst (-1), 1) := by decide +kernel
theorem dX0_walk_128 : decode cX0_walk 128 = .ok (.ixor, 1) := by decide +kernel
theorem dX0_walk_129 : decode cX0_walk 129 = .ok (.iand, 1) := by decide +kernel
theorem dX0_walk_130 : decode cX0_walk 130 = .ok (.invokestatic 98, 3) := by decide +kernel
theorem dX0_walk_133 : decode cX0_walk 133 = .ok (.istore 4, 2) := by decide +kernel
theorem dX0_walk_135 : decode cX0_walk 135 = .ok (.iload 4, 2) := by decide +kernel
theorem dX0_walk_137 : decode cX0_walk 137 = .ok (.ifCond .ge 9, 3) := by decide +kernel
theorem dX0_walk_140 : decode cX0_walk 140 = .ok (.iinc 1 (-1), 3) := by decide +kernel
theorem dX0_walk_143 : decode cX0_walk 143 = .ok (.goto 31, 3) := by decide +kernel
theorem dX0_walk_146 : decode cX0_walk 146 = .ok (.aload_n 0, 1) := by decide +kernel
theorem dX0_walk_147 : decode cX0_walk 147 = .ok (.iload_n 1, 1) := by decide +kernel
theorem dX0_walk_148 : decode cX0_walk 148 = .ok (.iload 4, 2) := by decide +kernel
theorem dX0_walk_150 : decode cX0_walk 150 = .ok (.invokevirtual 101, 3) := by decide +kernel
theorem dX0_walk_153 : decode cX0_walk 153 = .ok (.aload_n 0, 1) := by decide +kernel
theorem dX0_walk_154 : decode cX0_walk 154 = .ok (.getfield 41, 3) := by decide +kernel
theorem dX0_walk_157 : decode cX0_walk 157 = .ok (.iload_n 1, 1) := by decide +kernel
theorem dX0_walk_158 : decode cX0_walk 158 = .ok (.aload_n 0, 1) := by decide +kernel
theorem dX0_walk_159 : decode cX0_walk 159 = .ok (.getfield 41, 3) := by decide +kernel
theorem dX0_walk_162 : decode cX0_walk 162 = .ok (.iload_n 1, 1) := by decide +kernel
theorem dX0_walk_163 : decode cX0_walk 163 = .ok (.baload, 1) := by decide +kernel
theorem dX0_walk_164 : decode cX0_walk 164 = .ok (.iconst 1, 1) := by decide +kernel
theorem dX0_walk_165 : decode cX0_walk 165 = .ok (.iload 4, 2) := by decide +kernel
theorem dX0_walk_167 : decode cX0_walk 167 = .ok (.ishl, 1) := by decide +kernel
theorem dX0_walk_168 : decode cX0_walk 168 = .ok (.ior, 1) := by decide +kernel
theorem dX0_walk_169 : decode cX0_walk 169 = .ok (.i2b, 1) := by decide +kernel
theorem dX0_walk_170 : decode cX0_walk 170 = .ok (.bastore, 1) := by decide +kernel
theorem dX0_walk_171 : decode cX0_walk 171 = .ok (.iinc 1 1, 3) := by decide +kernel
theorem dX0_walk_174 : decode cX0_walk 174 = .ok (.iinc 2 1, 3) := by decide +kernel
theorem dX0_walk_177 : decode cX0_walk 177 = .ok (.goto (-105), 3) := by decide +kernel
theorem dX0_walk_180 : decode cX0_walk 180 = .ok (.return_, 1) := by decide +kernel
theorem dX0_enabled_0 : decode cX0_enabled 0 = .ok (.iconst 0, 1) := by decide +kernel
theorem dX0_enabled_1 : decode cX0_enabled 1 = .ok (.istore_n 2, 1) := by decide +kernel
theorem dX0_enabled_2 : decode cX0_enabled 2 = .ok (.iconst 0, 1) := by decide +kernel
theorem dX0_enabled_3 : decode cX0_enabled 3 = .ok (.istore_n 3, 1) := by decide +kernel
theorem dX0_enabled_4 : decode cX0_enabled 4 = .ok (.iload_n 3, 1) := by decide +kernel
theorem dX0_enabled_5 : decode cX0_enabled 5 = .ok (.iconst 3, 1) := by decide +kernel
theorem dX0_enabled_6 : decode cX0_enabled 6 = .ok (.if_icmp .ge 51, 3) := by decide +kernel
theorem dX0_enabled_9 : decode cX0_enabled 9 = .ok (.aload_n 0, 1) := by decide +kernel
theorem dX0_enabled_10 : decode cX0_enabled 10 = .ok (.iload_n 3, 1) := by decide +kernel
end
section
set_option maxRecDepth 100000
theorem dX0_enabled_11 : decode cX0_enabled 11 = .ok (.aload_n 0, 1) := by decide +kernel
theorem dX0_enabled_12 : decode cX0_enabled 12 = .ok (.getfield 29, 3) := by decide +kernel
theorem dX0_enabled_15 : decode cX0_enabled 15 = .ok (.iload_n 1, 1) := by decide +kernel
theorem dX0_enabled_16 : decode cX0_enabled 16 = .ok (.iconst 3, 1) := by decide +kernel
theorem dX0_enabled_17 : decode cX0_enabled 17 = .ok (.imul, 1) := by decide +kernel
theorem dX0_enabled_18 : decode cX0_enabled 18 = .ok (.baload, 1) := by decide +kernel
theorem dX0_enabled_19 : decode cX0_enabled 19 = .ok (.aload_n 0, 1) := by decide +kernel
theorem dX0_enabled_20 : decode cX0_enabled 20 = .ok (.getfield 29, 3) := by decide +kernel
theorem dX0_enabled_23 : decode cX0_enabled 23 = .ok (.iload_n 1, 1) := by decide +kernel
theorem dX0_enabled_24 : decode cX0_enabled 24 = .ok (.iconst 3, 1) := by decide +kernel
theorem dX0_enabled_25 : decode cX0_enabled 25 = .ok (.imul, 1) := by decide +kernel
theorem dX0_enabled_26 : decode cX0_enabled 26 = .ok (.iconst 1, 1) := by decide +kernel
theorem dX0_enabled_27 : decode cX0_enabled 27 = .ok (.iadd, 1) := by decide +kernel
theorem dX0_enabled_28 : decode cX0_enabled 28 = .ok (.baload, 1) := by decide +kernel
theorem dX0_enabled_29 : decode cX0_enabled 29 = .ok (.aload_n 0, 1) := by decide +kernel
theorem dX0_enabled_30 : decode cX0_enabled 30 = .ok (.getfield 29, 3) := by decide +kernel
theorem dX0_enabled_33 : decode cX0_enabled 33 = .ok (.iload_n 1, 1) := by decide +kernel
theorem dX0_enabled_34 : decode cX0_enabled 34 = .ok (.iconst 3, 1) := by decide +kernel
theorem dX0_enabled_35 : decode cX0_enabled 35 = .ok (.imul, 1) := by decide +kernel
theorem dX0_enabled_36 : decode cX0_enabled 36 = .ok (.iconst 2, 1) := by decide +kernel
theorem dX0_enabled_37 : decode cX0_enabled 37 = .ok (.iadd, 1) := by decide +kernel
theorem dX0_enabled_38 : decode cX0_enabled 38 = .ok (.baload, 1) := by decide +kernel
theorem dX0_enabled_39 : decode cX0_enabled 39 = .ok (.invokevirtual 64, 3) := by decide +kernel
theorem dX0_enabled_42 : decode cX0_enabled 42 = .ok (.ifCond .eq 9, 3) := by decide +kernel
theorem dX0_enabled_45 : decode cX0_enabled 45 = .ok (.iload_n 2, 1) := by decide +kernel
theorem dX0_enabled_46 : decode cX0_enabled 46 = .ok (.iconst 1, 1) := by decide +kernel
theorem dX0_enabled_47 : decode cX0_enabled 47 = .ok (.iload_n 3, 1) := by decide +kernel
theorem dX0_enabled_48 : decode cX0_enabled 48 = .ok (.ishl, 1) := by decide +kernel
theorem dX0_enabled_49 : decode cX0_enabled 49 = .ok (.ior, 1) := by decide +kernel
theorem dX0_enabled_50 : decode cX0_enabled 50 = .ok (.istore_n 2, 1) := by decide +kernel
theorem dX0_enabled_51 : decode cX0_enabled 51 = .ok (.iinc 3 1, 3) := by decide +kernel
theorem dX0_enabled_54 : decode cX0_enabled 54 = .ok (.goto (-50), 3) := by decide +kernel
theorem dX0_enabled_57 : decode cX0_enabled 57 = .ok (.iload_n 2, 1) := by decide +kernel
theorem dX0_enabled_58 : decode cX0_enabled 58 = .ok (.ireturn, 1) := by decide +kernel
theorem dX0_arrive_0 : decode cX0_arrive 0 = .ok (.iload_n 1, 1) := by decide +kernel
theorem dX0_arrive_1 : decode cX0_arrive 1 = .ok (.iconst 3, 1) := by decide +kernel
theorem dX0_arrive_2 : decode cX0_arrive 2 = .ok (.imul, 1) := by decide +kernel
theorem dX0_arrive_3 : decode cX0_arrive 3 = .ok (.istore_n 2, 1) := by decide +kernel
theorem dX0_arrive_4 : decode cX0_arrive 4 = .ok (.aload_n 0, 1) := by decide +kernel
theorem dX0_arrive_5 : decode cX0_arrive 5 = .ok (.dup, 1) := by decide +kernel
theorem dX0_arrive_6 : decode cX0_arrive 6 = .ok (.getfield 83, 3) := by decide +kernel
theorem dX0_arrive_9 : decode cX0_arrive 9 = .ok (.aload_n 0, 1) := by decide +kernel
theorem dX0_arrive_10 : decode cX0_arrive 10 = .ok (.getfield 35, 3) := by decide +kernel
theorem dX0_arrive_13 : decode cX0_arrive 13 = .ok (.iload_n 2, 1) := by decide +kernel
theorem dX0_arrive_14 : decode cX0_arrive 14 = .ok (.aload_n 0, 1) := by decide +kernel
theorem dX0_arrive_15 : decode cX0_arrive 15 = .ok (.getfield 113, 3) := by decide +kernel
theorem dX0_arrive_18 : decode cX0_arrive 18 = .ok (.iadd, 1) := by decide +kernel
theorem dX0_arrive_19 : decode cX0_arrive 19 = .ok (.iaload, 1) := by decide +kernel
theorem dX0_arrive_20 : decode cX0_arrive 20 = .ok (.aload_n 0, 1) := by decide +kernel
theorem dX0_arrive_21 : decode cX0_arrive 21 = .ok (.getfield 116, 3) := by decide +kernel
theorem dX0_arrive_24 : decode cX0_arrive 24 = .ok (.if_icmp .ne 25, 3) := by decide +kernel
theorem dX0_arrive_27 : decode cX0_arrive 27 = .ok (.aload_n 0, 1) := by decide +kernel
theorem dX0_arrive_28 : decode cX0_arrive 28 = .ok (.getfield 35, 3) := by decide +kernel
theorem dX0_arrive_31 : decode cX0_arrive 31 = .ok (.iload_n 2, 1) := by decide +kernel
theorem dX0_arrive_32 : decode cX0_arrive 32 = .ok (.aload_n 0, 1) := by decide +kernel
theorem dX0_arrive_33 : decode cX0_arrive 33 = .ok (.getfield 119, 3) := by decide +kernel
theorem dX0_arrive_36 : decode cX0_arrive 36 = .ok (.iadd, 1) := by decide +kernel
theorem dX0_arrive_37 : decode cX0_arrive 37 = .ok (.iaload, 1) := by decide +kernel
theorem dX0_arrive_38 : decode cX0_arrive 38 = .ok (.aload_n 0, 1) := by decide +kernel
theorem dX0_arrive_39 : decode cX0_arrive 39 = .ok (.getfield 122, 3) := by decide +kernel
theorem dX0_arrive_42 : decode cX0_arrive 42 = .ok (.if_icmp .ne 7, 3) := by decide +kernel
theorem dX0_arrive_45 : decode cX0_arrive 45 = .ok (.iconst 1, 1) := by decide +kernel
theorem dX0_arrive_46 : decode cX0_arrive 46 = .ok (.goto 4, 3) := by decide +kernel
theorem dX0_arrive_49 : decode cX0_arrive 49 = .ok (.iconst 0, 1) := by decide +kernel
theorem dX0_arrive_50 : decode cX0_arrive 50 = .ok (.ior, 1) := by decide +kernel
theorem dX0_arrive_51 : decode cX0_arrive 51 = .ok (.putfield 83, 3) := by decide +kernel
theorem dX0_arrive_54 : decode cX0_arrive 54 = .ok (.iconst 0, 1) := by decide +kernel
theorem dX0_arrive_55 : decode cX0_arrive 55 = .ok (.istore_n 3, 1) := by decide +kernel
theorem dX0_arrive_56 : decode cX0_arrive 56 = .ok (.iload_n 3, 1) := by decide +kernel
theorem dX0_arrive_57 : decode cX0_arrive 57 = .ok (.iconst 3, 1) := by decide +kernel
theorem dX0_arrive_58 : decode cX0_arrive 58 = .ok (.if_icmp .ge 175, 3) := by decide +kernel
theorem dX0_arrive_61 : decode cX0_arrive 61 = .ok (.aload_n 0, 1) := by decide +kernel
theorem dX0_arrive_62 : decode cX0_arrive 62 = .ok (.getfield 35, 3) := by decide +kernel
theorem dX0_arrive_65 : decode cX0_arrive 65 = .ok (.iload_n 2, 1) := by decide +kernel
theorem dX0_arrive_66 : decode cX0_arrive 66 = .ok (.iload_n 3, 1) := by decide +kernel
theorem dX0_arrive_67 : decode cX0_arrive 67 = .ok (.iadd, 1) := by decide +kernel
theorem dX0_arrive_68 : decode cX0_arrive 68 = .ok (.iaload, 1) := by decide +kernel
theorem dX0_arrive_69 : decode cX0_arrive 69 = .ok (.istore 4, 2) := by decide +kernel
theorem dX0_arrive_71 : decode cX0_arrive 71 = .ok (.aload_n 0, 1) := by decide +kernel
theorem dX0_arrive_72 : decode cX0_arrive 72 = .ok (.getfield 32, 3) := by decide +kernel
theorem dX0_arrive_75 : decode cX0_arrive 75 = .ok (.iload_n 2, 1) := by decide +kernel
theorem dX0_arrive_76 : decode cX0_arrive 76 = .ok (.iload_n 3, 1) := by decide +kernel
theorem dX0_arrive_77 : decode cX0_arrive 77 = .ok (.iadd, 1) := by decide +kernel
theorem dX0_arrive_78 : decode cX0_arrive 78 = .ok (.iaload, 1) := by decide +kernel
theorem dX0_arrive_79 : decode cX0_arrive 79 = .ok (.istore 5, 2) := by decide +kernel
theorem dX0_arrive_81 : decode cX0_arrive 81 = .ok (.aload_n 0, 1) := by decide +kernel
theorem dX0_arrive_82 : decode cX0_arrive 82 = .ok (.getfield 79, 3) := by decide +kernel
theorem dX0_arrive_85 : decode cX0_arrive 85 = .ok (.ifCond .ne 7, 3) := by decide +kernel
theorem dX0_arrive_88 : decode cX0_arrive 88 = .ok (.iconst 1, 1) := by decide +kernel
theorem dX0_arrive_89 : decode cX0_arrive 89 = .ok (.goto 4, 3) := by decide +kernel
theorem dX0_arrive_92 : decode cX0_arrive 92 = .ok (.iconst 0, 1) := by decide +kernel
theorem dX0_arrive_93 : decode cX0_arrive 93 = .ok (.istore 6, 2) := by decide +kernel
theorem dX0_arrive_95 : decode cX0_arrive 95 = .ok (.aload_n 0, 1) := by decide +kernel
theorem dX0_arrive_96 : decode cX0_arrive 96 = .ok (.getfield 44, 3) := by decide +kernel
theorem dX0_arrive_99 : decode cX0_arrive 99 = .ok (.iload_n 3, 1) := by decide +kernel
theorem dX0_arrive_100 : decode cX0_arrive 100 = .ok (.iload 6, 2) := by decide +kernel
theorem dX0_arrive_102 : decode cX0_arrive 102 = .ok (.ifCond .ne 14, 3) := by decide +kernel
theorem dX0_arrive_105 : decode cX0_arrive 105 = .ok (.iload 4, 2) := by decide +kernel
theorem dX0_arrive_107 : decode cX0_arrive 107 = .ok (.aload_n 0, 1) := by decide +kernel
theorem dX0_arrive_108 : decode cX0_arrive 108 = .ok (.getfield 44, 3) := by decide +kernel
theorem dX0_arrive_111 : decode cX0_arrive 111 = .ok (.iload_n 3, 1) := by decide +kernel
theorem dX0_arrive_112 : decode cX0_arrive 112 = .ok (.iaload, 1) := by decide +kernel
theorem dX0_arrive_113 : decode cX0_arrive 113 = .ok (.if_icmp .ge 8, 3) := by decide +kernel
theorem dX0_arrive_116 : decode cX0_arrive 116 = .ok (.iload 4, 2) := by decide +kernel
theorem dX0_arrive_118 : decode cX0_arrive 118 = .ok (.goto 9, 3) := by decide +kernel
theorem dX0_arrive_121 : decode cX0_arrive 121 = .ok (.aload_n 0, 1) := by decide +kernel
theorem dX0_arrive_122 : decode cX0_arrive 122 = .ok (.getfield 44, 3) := by decide +kernel
theorem dX0_arrive_125 : decode cX0_arrive 125 = .ok (.iload_n 3, 1) := by decide +kernel
theorem dX0_arrive_126 : decode cX0_arrive 126 = .ok (.iaload, 1) := by decide +kernel
theorem dX0_arrive_127 : decode cX0_arrive 127 = .ok (.iastore, 1) := by decide +kernel
theorem dX0_arrive_128 : decode cX0_arrive 128 = .ok (.aload_n 0, 1) := by decide +kernel
theorem dX0_arrive_129 : decode cX0_arrive 129 = .ok (.getfield 47, 3) := by decide +kernel
theorem dX0_arrive_132 : decode cX0_arrive 132 = .ok (.iload_n 3, 1) := by decide +kernel
theorem dX0_arrive_133 : decode cX0_arrive 133 = .ok (.iload 6, 2) := by decide +kernel
theorem dX0_arrive_135 : decode cX0_arrive 135 = .ok (.ifCond .ne 14, 3) := by decide +kernel
theorem dX0_arrive_138 : decode cX0_arrive 138 = .ok (.iload 4, 2) := by decide +kernel
theorem dX0_arrive_140 : decode cX0_arrive 140 = .ok (.aload_n 0, 1) := by decide +kernel
theorem dX0_arrive_141 : decode cX0_arrive 141 = .ok (.getfield 47, 3) := by decide +kernel
theorem dX0_arrive_144 : decode cX0_arrive 144 = .ok (.iload_n 3, 1) := by decide +kernel
theorem dX0_arrive_145 : decode cX0_arrive 145 = .ok (.iaload, 1) := by decide +kernel
theorem dX0_arrive_146 : decode cX0_arrive 146 = .ok (.if_icmp .le 8, 3) := by decide +kernel
theorem dX0_arrive_149 : decode cX0_arrive 149 = .ok (.iload 4, 2) := by decide +kernel
theorem dX0_arrive_151 : decode cX0_arrive 151 = .ok (.goto 9, 3) := by decide +kernel
theorem dX0_arrive_154 : decode cX0_arrive 154 = .ok (.aload_n 0, 1) := by decide +kernel
theorem dX0_arrive_155 : decode cX0_arrive 155 = .ok (.getfield 47, 3) := by decide +kernel
theorem dX0_arrive_158 : decode cX0_arrive 158 = .ok (.iload_n 3, 1) := by decide +kernel
theorem dX0_arrive_159 : decode cX0_arrive 159 = .ok (.iaload, 1) := by decide +kernel
theorem dX0_arrive_160 : decode cX0_arrive 160 = .ok (.iastore, 1) := by decide +kernel
theorem dX0_arrive_161 : decode cX0_arrive 161 = .ok (.aload_n 0, 1) := by decide +kernel
theorem dX0_arrive_162 : decode cX0_arrive 162 = .ok (.getfield 50, 3) := by decide +kernel
theorem dX0_arrive_165 : decode cX0_arrive 165 = .ok (.iload_n 3, 1) := by decide +kernel
theorem dX0_arrive_166 : decode cX0_arrive 166 = .ok (.iload 6, 2) := by decide +kernel
theorem dX0_arrive_168 : decode cX0_arrive 168 = .ok (.ifCond .ne 14, 3) := by decide +kernel
theorem dX0_arrive_171 : decode cX0_arrive 171 = .ok (.iload 5, 2) := by decide +kernel
theorem dX0_arrive_173 : decode cX0_arrive 173 = .ok (.aload_n 0, 1) := by decide +kernel
theorem dX0_arrive_174 : decode cX0_arrive 174 = .ok (.getfield 50, 3) := by decide +kernel
theorem dX0_arrive_177 : decode cX0_arrive 177 = .ok (.iload_n 3, 1) := by decide +kernel
theorem dX0_arrive_178 : decode cX0_arrive 178 = .ok (.iaload, 1) := by decide +kernel
theorem dX0_arrive_179 : decode cX0_arrive 179 = .ok (.if_icmp .ge 8, 3) := by decide +kernel
theorem dX0_arrive_182 : decode cX0_arrive 182 = .ok (.iload 5, 2) := by decide +kernel
theorem dX0_arrive_184 : decode cX0_arrive 184 = .ok (.goto 9, 3) := by decide +kernel
theorem dX0_arrive_187 : decode cX0_arrive 187 = .ok (.aload_n 0, 1) := by decide +kernel
theorem dX0_arrive_188 : decode cX0_arrive 188 = .ok (.getfield 50, 3) := by decide +kernel
theorem dX0_arrive_191 : decode cX0_arrive 191 = .ok (.iload_n 3, 1) := by decide +kernel
theorem dX0_arrive_192 : decode cX0_arrive 192 = .ok (.iaload, 1) := by decide +kernel
theorem dX0_arrive_193 : decode cX0_arrive 193 = .ok (.iastore, 1) := by decide +kernel
theorem dX0_arrive_194 : decode cX0_arrive 194 = .ok (.aload_n 0, 1) := by decide +kernel
theorem dX0_arrive_195 : decode cX0_arrive 195 = .ok (.getfield 53, 3) := by decide +kernel
theorem dX0_arrive_198 : decode cX0_arrive 198 = .ok (.iload_n 3, 1) := by decide +kernel
theorem dX0_arrive_199 : decode cX0_arrive 199 = .ok (.iload 6, 2) := by decide +kernel
theorem dX0_arrive_201 : decode cX0_arrive 201 = .ok (.ifCond .ne 14, 3) := by decide +kernel
theorem dX0_arrive_204 : decode cX0_arrive 204 = .ok (.iload 5, 2) := by decide +kernel
theorem dX0_arrive_206 : decode cX0_arrive 206 = .ok (.aload_n 0, 1) := by decide +kernel
theorem dX0_arrive_207 : decode cX0_arrive 207 = .ok (.getfield 53, 3) := by decide +kernel
theorem dX0_arrive_210 : decode cX0_arrive 210 = .ok (.iload_n 3, 1) := by decide +kernel
theorem dX0_arrive_211 : decode cX0_arrive 211 = .ok (.iaload, 1) := by decide +kernel
theorem dX0_arrive_212 : decode cX0_arrive 212 = .ok (.if_icmp .le 8, 3) := by decide +kernel
theorem dX0_arrive_215 : decode cX0_arrive 215 = .ok (.iload 5, 2) := by decide +kernel
theorem dX0_arrive_217 : decode cX0_arrive 217 = .ok (.goto 9, 3) := by decide +kernel
theorem dX0_arrive_220 : decode cX0_arrive 220 = .ok (.aload_n 0, 1) := by decide +kernel
theorem dX0_arrive_221 : decode cX0_arrive 221 = .ok (.getfield 53, 3) := by decide +kernel
theorem dX0_arrive_224 : decode cX0_arrive 224 = .ok (.iload_n 3, 1) := by decide +kernel
theorem dX0_arrive_225 : decode cX0_arrive 225 = .ok (.iaload, 1) := by decide +kernel
theorem dX0_arrive_226 : decode cX0_arrive 226 = .ok (.iastore, 1) := by decide +kernel
theorem dX0_arrive_227 : decode cX0_arrive 227 = .ok (.iinc 3 1, 3) := by decide +kernel
theorem dX0_arrive_230 : decode cX0_arrive 230 = .ok (.goto (-174), 3) := by decide +kernel
theorem dX0_arrive_233 : decode cX0_arrive 233 = .ok (.aload_n 0, 1) := by decide +kernel
theorem dX0_arrive_234 : decode cX0_arrive 234 = .ok (.dup, 1) := by decide +kernel
theorem dX0_arrive_235 : decode cX0_arrive 235 = .ok (.getfield 79, 3) := by decide +kernel
theorem dX0_arrive_238 : decode cX0_arrive 238 = .ok (.iconst 1, 1) := by decide +kernel
theorem dX0_arrive_239 : decode cX0_arrive 239 = .ok (.iadd, 1) := by decide +kernel
theorem dX0_arrive_240 : decode cX0_arrive 240 = .ok (.putfield 79, 3) := by decide +kernel
theorem dX0_arrive_243 : decode cX0_arrive 243 = .ok (.return_, 1) := by decide +kernel
theorem dX0_nextThread_0 : decode cX0_nextThread 0 = .ok (.iconst 0, 1) := by decide +kernel
theorem dX0_nextThread_1 : decode cX0_nextThread 1 = .ok (.istore_n 1, 1) := by decide +kernel
theorem dX0_nextThread_2 : decode cX0_nextThread 2 = .ok (.iload_n 1, 1) := by decide +kernel
theorem dX0_nextThread_3 : decode cX0_nextThread 3 = .ok (.iconst 3, 1) := by decide +kernel
theorem dX0_nextThread_4 : decode cX0_nextThread 4 = .ok (.if_icmp .ge 19, 3) := by decide +kernel
theorem dX0_nextThread_7 : decode cX0_nextThread 7 = .ok (.iload_n 0, 1) := by decide +kernel
theorem dX0_nextThread_8 : decode cX0_nextThread 8 = .ok (.iload_n 1, 1) := by decide +kernel
theorem dX0_nextThread_9 : decode cX0_nextThread 9 = .ok (.ishr, 1) := by decide +kernel
theorem dX0_nextThread_10 : decode cX0_nextThread 10 = .ok (.iconst 1, 1) := by decide +kernel
theorem dX0_nextThread_11 : decode cX0_nextThread 11 = .ok (.iand, 1) := by decide +kernel
theorem dX0_nextThread_12 : decode cX0_nextThread 12 = .ok (.ifCond .eq 5, 3) := by decide +kernel
theorem dX0_nextThread_15 : decode cX0_nextThread 15 = .ok (.iload_n 1, 1) := by decide +kernel
theorem dX0_nextThread_16 : decode cX0_nextThread 16 = .ok (.ireturn, 1) := by decide +kernel
theorem dX0_nextThread_17 : decode cX0_nextThread 17 = .ok (.iinc 1 1, 3) := by decide +kernel
theorem dX0_nextThread_20 : decode cX0_nextThread 20 = .ok (.goto (-18), 3) := by decide +kernel
theorem dX0_nextThread_23 : decode cX0_nextThread 23 = .ok (.iconst (-1), 1) := by decide +kernel
theorem dX0_nextThread_24 : decode cX0_nextThread 24 = .ok (.ireturn, 1) := by decide +kernel
theorem dX0_turn_0 : decode cX0_turn 0 = .ok (.iload_n 1, 1) := by decide +kernel
theorem dX0_turn_1 : decode cX0_turn 1 = .ok (.iconst 3, 1) := by decide +kernel
theorem dX0_turn_2 : decode cX0_turn 2 = .ok (.imul, 1) := by decide +kernel
theorem dX0_turn_3 : decode cX0_turn 3 = .ok (.istore_n 3, 1) := by decide +kernel
theorem dX0_turn_4 : decode cX0_turn 4 = .ok (.iload_n 3, 1) := by decide +kernel
theorem dX0_turn_5 : decode cX0_turn 5 = .ok (.iconst 3, 1) := by decide +kernel
theorem dX0_turn_6 : decode cX0_turn 6 = .ok (.iadd, 1) := by decide +kernel
theorem dX0_turn_7 : decode cX0_turn 7 = .ok (.istore 4, 2) := by decide +kernel
theorem dX0_turn_9 : decode cX0_turn 9 = .ok (.iconst 0, 1) := by decide +kernel
theorem dX0_turn_10 : decode cX0_turn 10 = .ok (.istore 5, 2) := by decide +kernel
theorem dX0_turn_12 : decode cX0_turn 12 = .ok (.iload 5, 2) := by decide +kernel
theorem dX0_turn_14 : decode cX0_turn 14 = .ok (.iconst 3, 1) := by decide +kernel
theorem dX0_turn_15 : decode cX0_turn 15 = .ok (.if_icmp .ge 66, 3) := by decide +kernel
theorem dX0_turn_18 : decode cX0_turn 18 = .ok (.aload_n 0, 1) := by decide +kernel
theorem dX0_turn_19 : decode cX0_turn 19 = .ok (.getfield 29, 3) := by decide +kernel
theorem dX0_turn_22 : decode cX0_turn 22 = .ok (.iload 4, 2) := by decide +kernel
theorem dX0_turn_24 : decode cX0_turn 24 = .ok (.iload 5, 2) := by decide +kernel
theorem dX0_turn_26 : decode cX0_turn 26 = .ok (.iadd, 1) := by decide +kernel
theorem dX0_turn_27 : decode cX0_turn 27 = .ok (.aload_n 0, 1) := by decide +kernel
theorem dX0_turn_28 : decode cX0_turn 28 = .ok (.getfield 29, 3) := by decide +kernel
theorem dX0_turn_31 : decode cX0_turn 31 = .ok (.iload_n 3, 1) := by decide +kernel
theorem dX0_turn_32 : decode cX0_turn 32 = .ok (.iload 5, 2) := by decide +kernel
theorem dX0_turn_34 : decode cX0_turn 34 = .ok (.iadd, 1) := by decide +kernel
theorem dX0_turn_35 : decode cX0_turn 35 = .ok (.baload, 1) := by decide +kernel
theorem dX0_turn_36 : decode cX0_turn 36 = .ok (.bastore, 1) := by decide +kernel
theorem dX0_turn_37 : decode cX0_turn 37 = .ok (.aload_n 0, 1) := by decide +kernel
theorem dX0_turn_38 : decode cX0_turn 38 = .ok (.getfield 32, 3) := by decide +kernel
theorem dX0_turn_41 : decode cX0_turn 41 = .ok (.iload 4, 2) := by decide +kernel
theorem dX0_turn_43 : decode cX0_turn 43 = .ok (.iload 5, 2) := by decide +kernel
theorem dX0_turn_45 : decode cX0_turn 45 = .ok (.iadd, 1) := by decide +kernel
theorem dX0_turn_46 : decode cX0_turn 46 = .ok (.aload_n 0, 1) := by decide +kernel
theorem dX0_turn_47 : decode cX0_turn 47 = .ok (.getfield 32, 3) := by decide +kernel
theorem dX0_turn_50 : decode cX0_turn 50 = .ok (.iload_n 3, 1) := by decide +kernel
theorem dX0_turn_51 : decode cX0_turn 51 = .ok (.iload 5, 2) := by decide +kernel
theorem dX0_turn_53 : decode cX0_turn 53 = .ok (.iadd, 1) := by decide +kernel
theorem dX0_turn_54 : decode cX0_turn 54 = .ok (.iaload, 1) := by decide +kernel
theorem dX0_turn_55 : decode cX0_turn 55 = .ok (.iastore, 1) := by decide +kernel
theorem dX0_turn_56 : decode cX0_turn 56 = .ok (.aload_n 0, 1) := by decide +kernel
theorem dX0_turn_57 : decode cX0_turn 57 = .ok (.getfield 35, 3) := by decide +kernel
theorem dX0_turn_60 : decode cX0_turn 60 = .ok (.iload 4, 2) := by decide +kernel
theorem dX0_turn_62 : decode cX0_turn 62 = .ok (.iload 5, 2) := by decide +kernel
theorem dX0_turn_64 : decode cX0_turn 64 = .ok (.iadd, 1) := by decide +kernel
theorem dX0_turn_65 : decode cX0_turn 65 = .ok (.aload_n 0, 1) := by decide +kernel
theorem dX0_turn_66 : decode cX0_turn 66 = .ok (.getfield 35, 3) := by decide +kernel
theorem dX0_turn_69 : decode cX0_turn 69 = .ok (.iload_n 3, 1) := by decide +kernel
theorem dX0_turn_70 : decode cX0_turn 70 = .ok (.iload 5, 2) := by decide +kernel
theorem dX0_turn_72 : decode cX0_turn 72 = .ok (.iadd, 1) := by decide +kernel
theorem dX0_turn_73 : decode cX0_turn 73 = .ok (.iaload, 1) := by decide +kernel
theorem dX0_turn_74 : decode cX0_turn 74 = .ok (.iastore, 1) := by decide +kernel
theorem dX0_turn_75 : decode cX0_turn 75 = .ok (.iinc 5 1, 3) := by decide +kernel
theorem dX0_turn_78 : decode cX0_turn 78 = .ok (.goto (-66), 3) := by decide +kernel
theorem dX0_turn_81 : decode cX0_turn 81 = .ok (.iload_n 2, 1) := by decide +kernel
theorem dX0_turn_82 : decode cX0_turn 82 = .ok (.iconst 4, 1) := by decide +kernel
theorem dX0_turn_83 : decode cX0_turn 83 = .ok (.imul, 1) := by decide +kernel
theorem dX0_turn_84 : decode cX0_turn 84 = .ok (.aload_n 0, 1) := by decide +kernel
theorem dX0_turn_85 : decode cX0_turn 85 = .ok (.getfield 29, 3) := by decide +kernel
theorem dX0_turn_88 : decode cX0_turn 88 = .ok (.iload_n 3, 1) := by decide +kernel
theorem dX0_turn_89 : decode cX0_turn 89 = .ok (.iload_n 2, 1) := by decide +kernel
theorem dX0_turn_90 : decode cX0_turn 90 = .ok (.iadd, 1) := by decide +kernel
theorem dX0_turn_91 : decode cX0_turn 91 = .ok (.baload, 1) := by decide +kernel
theorem dX0_turn_92 : decode cX0_turn 92 = .ok (.iadd, 1) := by decide +kernel
theorem dX0_turn_93 : decode cX0_turn 93 = .ok (.istore 5, 2) := by decide +kernel
theorem dX0_turn_95 : decode cX0_turn 95 = .ok (.aload_n 0, 1) := by decide +kernel
theorem dX0_turn_96 : decode cX0_turn 96 = .ok (.getfield 29, 3) := by decide +kernel
theorem dX0_turn_99 : decode cX0_turn 99 = .ok (.iload 4, 2) := by decide +kernel
theorem dX0_turn_101 : decode cX0_turn 101 = .ok (.iload_n 2, 1) := by decide +kernel
theorem dX0_turn_102 : decode cX0_turn 102 = .ok (.iadd, 1) := by decide +kernel
theorem dX0_turn_103 : decode cX0_turn 103 = .ok (.dup2, 1) := by decide +kernel
theorem dX0_turn_104 : decode cX0_turn 104 = .ok (.baload, 1) := by decide +kernel
theorem dX0_turn_105 : decode cX0_turn 105 = .ok (.iconst 1, 1) := by decide +kernel
theorem dX0_turn_106 : decode cX0_turn 106 = .ok (.iadd, 1) := by decide +kernel
theorem dX0_turn_107 : decode cX0_turn 107 = .ok (.i2b, 1) := by decide +kernel
theorem dX0_turn_108 : decode cX0_turn 108 = .ok (.bastore, 1) := by decide +kernel
theorem dX0_turn_109 : decode cX0_turn 109 = .ok (.aload_n 0, 1) := by decide +kernel
theorem dX0_turn_110 : decode cX0_turn 110 = .ok (.iload 5, 2) := by decide +kernel
theorem dX0_turn_112 : decode cX0_turn 112 = .ok (.iload 4, 2) := by decide +kernel
theorem dX0_turn_114 : decode cX0_turn 114 = .ok (.iload_n 2, 1) := by decide +kernel
theorem dX0_turn_115 : decode cX0_turn 115 = .ok (.iadd, 1) := by decide +kernel
theorem dX0_turn_116 : decode cX0_turn 116 = .ok (.iload 4, 2) := by decide +kernel
theorem dX0_turn_118 : decode cX0_turn 118 = .ok (.invokevirtual 105, 3) := by decide +kernel
theorem dX0_turn_121 : decode cX0_turn 121 = .ok (.iconst 0, 1) := by decide +kernel
theorem dX0_turn_122 : decode cX0_turn 122 = .ok (.istore 6, 2) := by decide +kernel
theorem dX0_turn_124 : decode cX0_turn 124 = .ok (.iconst 0, 1) := by decide +kernel
theorem dX0_turn_125 : decode cX0_turn 125 = .ok (.istore 7, 2) := by decide +kernel
theorem dX0_turn_127 : decode cX0_turn 127 = .ok (.iload 7, 2) := by decide +kernel
theorem dX0_turn_129 : decode cX0_turn 129 = .ok (.iconst 3, 1) := by decide +kernel
theorem dX0_turn_130 : decode cX0_turn 130 = .ok (.if_icmp .ge 74, 3) := by decide +kernel
theorem dX0_turn_133 : decode cX0_turn 133 = .ok (.aload_n 0, 1) := by decide +kernel
theorem dX0_turn_134 : decode cX0_turn 134 = .ok (.getfield 38, 3) := by decide +kernel
theorem dX0_turn_137 : decode cX0_turn 137 = .ok (.iload_n 1, 1) := by decide +kernel
theorem dX0_turn_138 : decode cX0_turn 138 = .ok (.baload, 1) := by decide +kernel
theorem dX0_turn_139 : decode cX0_turn 139 = .ok (.aload_n 0, 1) := by decide +kernel
theorem dX0_turn_140 : decode cX0_turn 140 = .ok (.getfield 41, 3) := by decide +kernel
theorem dX0_turn_143 : decode cX0_turn 143 = .ok (.iload_n 1, 1) := by decide +kernel
theorem dX0_turn_144 : decode cX0_turn 144 = .ok (.baload, 1) := by decide +kernel
theorem dX0_turn_145 : decode cX0_turn 145 = .ok (.ior, 1) := by decide +kernel
theorem dX0_turn_146 : decode cX0_turn 146 = .ok (.iload 7, 2) := by decide +kernel
theorem dX0_turn_148 : decode cX0_turn 148 = .ok (.ishr, 1) := by decide +kernel
theorem dX0_turn_149 : decode cX0_turn 149 = .ok (.iconst 1, 1) := by decide +kernel
theorem dX0_turn_150 : decode cX0_turn 150 = .ok (.iand, 1) := by decide +kernel
end
section
set_option maxRecDepth 100000
theorem dX0_turn_151 : decode cX0_turn 151 = .ok (.ifCond .eq 7, 3) := by decide +kernel
theorem dX0_turn_154 : decode cX0_turn 154 = .ok (.iconst 1, 1) := by decide +kernel
theorem dX0_turn_155 : decode cX0_turn 155 = .ok (.goto 4, 3) := by decide +kernel
theorem dX0_turn_158 : decode cX0_turn 158 = .ok (.iconst 0, 1) := by decide +kernel
theorem dX0_turn_159 : decode cX0_turn 159 = .ok (.istore 8, 2) := by decide +kernel
theorem dX0_turn_161 : decode cX0_turn 161 = .ok (.iload 8, 2) := by decide +kernel
theorem dX0_turn_163 : decode cX0_turn 163 = .ok (.ifCond .eq 35, 3) := by decide +kernel
theorem dX0_turn_166 : decode cX0_turn 166 = .ok (.aload_n 0, 1) := by decide +kernel
theorem dX0_turn_167 : decode cX0_turn 167 = .ok (.iload 5, 2) := by decide +kernel
theorem dX0_turn_169 : decode cX0_turn 169 = .ok (.iload 7, 2) := by decide +kernel
theorem dX0_turn_171 : decode cX0_turn 171 = .ok (.iconst 4, 1) := by decide +kernel
theorem dX0_turn_172 : decode cX0_turn 172 = .ok (.imul, 1) := by decide +kernel
theorem dX0_turn_173 : decode cX0_turn 173 = .ok (.aload_n 0, 1) := by decide +kernel
theorem dX0_turn_174 : decode cX0_turn 174 = .ok (.getfield 29, 3) := by decide +kernel
theorem dX0_turn_177 : decode cX0_turn 177 = .ok (.iload_n 3, 1) := by decide +kernel
theorem dX0_turn_178 : decode cX0_turn 178 = .ok (.iload 7, 2) := by decide +kernel
theorem dX0_turn_180 : decode cX0_turn 180 = .ok (.iadd, 1) := by decide +kernel
theorem dX0_turn_181 : decode cX0_turn 181 = .ok (.baload, 1) := by decide +kernel
theorem dX0_turn_182 : decode cX0_turn 182 = .ok (.iadd, 1) := by decide +kernel
theorem dX0_turn_183 : decode cX0_turn 183 = .ok (.invokevirtual 109, 3) := by decide +kernel
theorem dX0_turn_186 : decode cX0_turn 186 = .ok (.ifCond .ne 12, 3) := by decide +kernel
theorem dX0_turn_189 : decode cX0_turn 189 = .ok (.iload 6, 2) := by decide +kernel
theorem dX0_turn_191 : decode cX0_turn 191 = .ok (.iconst 1, 1) := by decide +kernel
theorem dX0_turn_192 : decode cX0_turn 192 = .ok (.iload 7, 2) := by decide +kernel
theorem dX0_turn_194 : decode cX0_turn 194 = .ok (.ishl, 1) := by decide +kernel
theorem dX0_turn_195 : decode cX0_turn 195 = .ok (.ior, 1) := by decide +kernel
theorem dX0_turn_196 : decode cX0_turn 196 = .ok (.istore 6, 2) := by decide +kernel
theorem dX0_turn_198 : decode cX0_turn 198 = .ok (.iinc 7 1, 3) := by decide +kernel
theorem dX0_turn_201 : decode cX0_turn 201 = .ok (.goto (-74), 3) := by decide +kernel
theorem dX0_turn_204 : decode cX0_turn 204 = .ok (.aload_n 0, 1) := by decide +kernel
theorem dX0_turn_205 : decode cX0_turn 205 = .ok (.getfield 38, 3) := by decide +kernel
theorem dX0_turn_208 : decode cX0_turn 208 = .ok (.iload_n 1, 1) := by decide +kernel
theorem dX0_turn_209 : decode cX0_turn 209 = .ok (.iconst 1, 1) := by decide +kernel
theorem dX0_turn_210 : decode cX0_turn 210 = .ok (.iadd, 1) := by decide +kernel
theorem dX0_turn_211 : decode cX0_turn 211 = .ok (.iload 6, 2) := by decide +kernel
theorem dX0_turn_213 : decode cX0_turn 213 = .ok (.i2b, 1) := by decide +kernel
theorem dX0_turn_214 : decode cX0_turn 214 = .ok (.bastore, 1) := by decide +kernel
theorem dX0_turn_215 : decode cX0_turn 215 = .ok (.aload_n 0, 1) := by decide +kernel
theorem dX0_turn_216 : decode cX0_turn 216 = .ok (.getfield 41, 3) := by decide +kernel
theorem dX0_turn_219 : decode cX0_turn 219 = .ok (.iload_n 1, 1) := by decide +kernel
theorem dX0_turn_220 : decode cX0_turn 220 = .ok (.iconst 1, 1) := by decide +kernel
theorem dX0_turn_221 : decode cX0_turn 221 = .ok (.iadd, 1) := by decide +kernel
theorem dX0_turn_222 : decode cX0_turn 222 = .ok (.iconst 0, 1) := by decide +kernel
theorem dX0_turn_223 : decode cX0_turn 223 = .ok (.bastore, 1) := by decide +kernel
theorem dX0_turn_224 : decode cX0_turn 224 = .ok (.return_, 1) := by decide +kernel
theorem dX0_carry_0 : decode cX0_carry 0 = .ok (.aload_n 0, 1) := by decide +kernel
theorem dX0_carry_1 : decode cX0_carry 1 = .ok (.getfield 13, 3) := by decide +kernel
theorem dX0_carry_4 : decode cX0_carry 4 = .ok (.iload_n 1, 1) := by decide +kernel
theorem dX0_carry_5 : decode cX0_carry 5 = .ok (.baload, 1) := by decide +kernel
theorem dX0_carry_6 : decode cX0_carry 6 = .ok (.istore 4, 2) := by decide +kernel
theorem dX0_carry_8 : decode cX0_carry 8 = .ok (.aload_n 0, 1) := by decide +kernel
theorem dX0_carry_9 : decode cX0_carry 9 = .ok (.getfield 16, 3) := by decide +kernel
theorem dX0_carry_12 : decode cX0_carry 12 = .ok (.iload_n 1, 1) := by decide +kernel
theorem dX0_carry_13 : decode cX0_carry 13 = .ok (.iaload, 1) := by decide +kernel
theorem dX0_carry_14 : decode cX0_carry 14 = .ok (.istore 5, 2) := by decide +kernel
theorem dX0_carry_16 : decode cX0_carry 16 = .ok (.iload 4, 2) := by decide +kernel
theorem dX0_carry_18 : decode cX0_carry 18 = .ok (.iconst 3, 1) := by decide +kernel
theorem dX0_carry_19 : decode cX0_carry 19 = .ok (.if_icmp .ne 17, 3) := by decide +kernel
theorem dX0_carry_22 : decode cX0_carry 22 = .ok (.aload_n 0, 1) := by decide +kernel
theorem dX0_carry_23 : decode cX0_carry 23 = .ok (.getfield 32, 3) := by decide +kernel
theorem dX0_carry_26 : decode cX0_carry 26 = .ok (.iload_n 2, 1) := by decide +kernel
theorem dX0_carry_27 : decode cX0_carry 27 = .ok (.dup2, 1) := by decide +kernel
theorem dX0_carry_28 : decode cX0_carry 28 = .ok (.iaload, 1) := by decide +kernel
theorem dX0_carry_29 : decode cX0_carry 29 = .ok (.iload 5, 2) := by decide +kernel
theorem dX0_carry_31 : decode cX0_carry 31 = .ok (.iadd, 1) := by decide +kernel
theorem dX0_carry_32 : decode cX0_carry 32 = .ok (.iastore, 1) := by decide +kernel
theorem dX0_carry_33 : decode cX0_carry 33 = .ok (.goto 68, 3) := by decide +kernel
theorem dX0_carry_36 : decode cX0_carry 36 = .ok (.iload 4, 2) := by decide +kernel
theorem dX0_carry_38 : decode cX0_carry 38 = .ok (.iconst 2, 1) := by decide +kernel
theorem dX0_carry_39 : decode cX0_carry 39 = .ok (.if_icmp .gt 62, 3) := by decide +kernel
theorem dX0_carry_42 : decode cX0_carry 42 = .ok (.aload_n 0, 1) := by decide +kernel
theorem dX0_carry_43 : decode cX0_carry 43 = .ok (.getfield 35, 3) := by decide +kernel
theorem dX0_carry_46 : decode cX0_carry 46 = .ok (.iload_n 3, 1) := by decide +kernel
theorem dX0_carry_47 : decode cX0_carry 47 = .ok (.iload 5, 2) := by decide +kernel
theorem dX0_carry_49 : decode cX0_carry 49 = .ok (.iadd, 1) := by decide +kernel
theorem dX0_carry_50 : decode cX0_carry 50 = .ok (.iaload, 1) := by decide +kernel
theorem dX0_carry_51 : decode cX0_carry 51 = .ok (.istore 6, 2) := by decide +kernel
theorem dX0_carry_53 : decode cX0_carry 53 = .ok (.aload_n 0, 1) := by decide +kernel
theorem dX0_carry_54 : decode cX0_carry 54 = .ok (.getfield 35, 3) := by decide +kernel
theorem dX0_carry_57 : decode cX0_carry 57 = .ok (.iload_n 3, 1) := by decide +kernel
theorem dX0_carry_58 : decode cX0_carry 58 = .ok (.iload 5, 2) := by decide +kernel
theorem dX0_carry_60 : decode cX0_carry 60 = .ok (.iadd, 1) := by decide +kernel
theorem dX0_carry_61 : decode cX0_carry 61 = .ok (.iload 4, 2) := by decide +kernel
theorem dX0_carry_63 : decode cX0_carry 63 = .ok (.ifCond .ne 8, 3) := by decide +kernel
theorem dX0_carry_66 : decode cX0_carry 66 = .ok (.iload 6, 2) := by decide +kernel
theorem dX0_carry_68 : decode cX0_carry 68 = .ok (.goto 9, 3) := by decide +kernel
theorem dX0_carry_71 : decode cX0_carry 71 = .ok (.aload_n 0, 1) := by decide +kernel
theorem dX0_carry_72 : decode cX0_carry 72 = .ok (.getfield 32, 3) := by decide +kernel
theorem dX0_carry_75 : decode cX0_carry 75 = .ok (.iload_n 2, 1) := by decide +kernel
theorem dX0_carry_76 : decode cX0_carry 76 = .ok (.iaload, 1) := by decide +kernel
theorem dX0_carry_77 : decode cX0_carry 77 = .ok (.iastore, 1) := by decide +kernel
theorem dX0_carry_78 : decode cX0_carry 78 = .ok (.aload_n 0, 1) := by decide +kernel
theorem dX0_carry_79 : decode cX0_carry 79 = .ok (.getfield 32, 3) := by decide +kernel
theorem dX0_carry_82 : decode cX0_carry 82 = .ok (.iload_n 2, 1) := by decide +kernel
theorem dX0_carry_83 : decode cX0_carry 83 = .ok (.iload 4, 2) := by decide +kernel
theorem dX0_carry_85 : decode cX0_carry 85 = .ok (.iconst 1, 1) := by decide +kernel
theorem dX0_carry_86 : decode cX0_carry 86 = .ok (.if_icmp .ne 12, 3) := by decide +kernel
theorem dX0_carry_89 : decode cX0_carry 89 = .ok (.aload_n 0, 1) := by decide +kernel
theorem dX0_carry_90 : decode cX0_carry 90 = .ok (.getfield 32, 3) := by decide +kernel
theorem dX0_carry_93 : decode cX0_carry 93 = .ok (.iload_n 2, 1) := by decide +kernel
theorem dX0_carry_94 : decode cX0_carry 94 = .ok (.iaload, 1) := by decide +kernel
theorem dX0_carry_95 : decode cX0_carry 95 = .ok (.goto 5, 3) := by decide +kernel
theorem dX0_carry_98 : decode cX0_carry 98 = .ok (.iload 6, 2) := by decide +kernel
theorem dX0_carry_100 : decode cX0_carry 100 = .ok (.iastore, 1) := by decide +kernel
theorem dX0_carry_101 : decode cX0_carry 101 = .ok (.return_, 1) := by decide +kernel
theorem dX0_touch_0 : decode cX0_touch 0 = .ok (.aload_n 0, 1) := by decide +kernel
theorem dX0_touch_1 : decode cX0_touch 1 = .ok (.getfield 13, 3) := by decide +kernel
theorem dX0_touch_4 : decode cX0_touch 4 = .ok (.iload_n 1, 1) := by decide +kernel
theorem dX0_touch_5 : decode cX0_touch 5 = .ok (.baload, 1) := by decide +kernel
theorem dX0_touch_6 : decode cX0_touch 6 = .ok (.iconst 3, 1) := by decide +kernel
theorem dX0_touch_7 : decode cX0_touch 7 = .ok (.if_icmp .eq 28, 3) := by decide +kernel
theorem dX0_touch_10 : decode cX0_touch 10 = .ok (.aload_n 0, 1) := by decide +kernel
theorem dX0_touch_11 : decode cX0_touch 11 = .ok (.getfield 13, 3) := by decide +kernel
theorem dX0_touch_14 : decode cX0_touch 14 = .ok (.iload_n 2, 1) := by decide +kernel
theorem dX0_touch_15 : decode cX0_touch 15 = .ok (.baload, 1) := by decide +kernel
theorem dX0_touch_16 : decode cX0_touch 16 = .ok (.iconst 3, 1) := by decide +kernel
theorem dX0_touch_17 : decode cX0_touch 17 = .ok (.if_icmp .eq 18, 3) := by decide +kernel
theorem dX0_touch_20 : decode cX0_touch 20 = .ok (.aload_n 0, 1) := by decide +kernel
theorem dX0_touch_21 : decode cX0_touch 21 = .ok (.getfield 16, 3) := by decide +kernel
theorem dX0_touch_24 : decode cX0_touch 24 = .ok (.iload_n 1, 1) := by decide +kernel
theorem dX0_touch_25 : decode cX0_touch 25 = .ok (.iaload, 1) := by decide +kernel
theorem dX0_touch_26 : decode cX0_touch 26 = .ok (.aload_n 0, 1) := by decide +kernel
theorem dX0_touch_27 : decode cX0_touch 27 = .ok (.getfield 16, 3) := by decide +kernel
theorem dX0_touch_30 : decode cX0_touch 30 = .ok (.iload_n 2, 1) := by decide +kernel
theorem dX0_touch_31 : decode cX0_touch 31 = .ok (.iaload, 1) := by decide +kernel
theorem dX0_touch_32 : decode cX0_touch 32 = .ok (.if_icmp .eq 5, 3) := by decide +kernel
theorem dX0_touch_35 : decode cX0_touch 35 = .ok (.iconst 0, 1) := by decide +kernel
theorem dX0_touch_36 : decode cX0_touch 36 = .ok (.ireturn, 1) := by decide +kernel
theorem dX0_touch_37 : decode cX0_touch 37 = .ok (.aload_n 0, 1) := by decide +kernel
theorem dX0_touch_38 : decode cX0_touch 38 = .ok (.getfield 13, 3) := by decide +kernel
theorem dX0_touch_41 : decode cX0_touch 41 = .ok (.iload_n 1, 1) := by decide +kernel
theorem dX0_touch_42 : decode cX0_touch 42 = .ok (.baload, 1) := by decide +kernel
theorem dX0_touch_43 : decode cX0_touch 43 = .ok (.iconst 4, 1) := by decide +kernel
theorem dX0_touch_44 : decode cX0_touch 44 = .ok (.if_icmp .lt 7, 3) := by decide +kernel
theorem dX0_touch_47 : decode cX0_touch 47 = .ok (.iconst 1, 1) := by decide +kernel
theorem dX0_touch_48 : decode cX0_touch 48 = .ok (.goto 4, 3) := by decide +kernel
theorem dX0_touch_51 : decode cX0_touch 51 = .ok (.iconst 0, 1) := by decide +kernel
theorem dX0_touch_52 : decode cX0_touch 52 = .ok (.istore_n 3, 1) := by decide +kernel
theorem dX0_touch_53 : decode cX0_touch 53 = .ok (.aload_n 0, 1) := by decide +kernel
theorem dX0_touch_54 : decode cX0_touch 54 = .ok (.getfield 13, 3) := by decide +kernel
theorem dX0_touch_57 : decode cX0_touch 57 = .ok (.iload_n 2, 1) := by decide +kernel
theorem dX0_touch_58 : decode cX0_touch 58 = .ok (.baload, 1) := by decide +kernel
theorem dX0_touch_59 : decode cX0_touch 59 = .ok (.iconst 4, 1) := by decide +kernel
theorem dX0_touch_60 : decode cX0_touch 60 = .ok (.if_icmp .lt 7, 3) := by decide +kernel
theorem dX0_touch_63 : decode cX0_touch 63 = .ok (.iconst 1, 1) := by decide +kernel
theorem dX0_touch_64 : decode cX0_touch 64 = .ok (.goto 4, 3) := by decide +kernel
theorem dX0_touch_67 : decode cX0_touch 67 = .ok (.iconst 0, 1) := by decide +kernel
theorem dX0_touch_68 : decode cX0_touch 68 = .ok (.istore 4, 2) := by decide +kernel
theorem dX0_touch_70 : decode cX0_touch 70 = .ok (.iload_n 3, 1) := by decide +kernel
theorem dX0_touch_71 : decode cX0_touch 71 = .ok (.iload 4, 2) := by decide +kernel
theorem dX0_touch_73 : decode cX0_touch 73 = .ok (.if_icmp .ne 29, 3) := by decide +kernel
theorem dX0_touch_76 : decode cX0_touch 76 = .ok (.iload_n 3, 1) := by decide +kernel
theorem dX0_touch_77 : decode cX0_touch 77 = .ok (.ifCond .ne 21, 3) := by decide +kernel
theorem dX0_touch_80 : decode cX0_touch 80 = .ok (.aload_n 0, 1) := by decide +kernel
theorem dX0_touch_81 : decode cX0_touch 81 = .ok (.getfield 13, 3) := by decide +kernel
theorem dX0_touch_84 : decode cX0_touch 84 = .ok (.iload_n 1, 1) := by decide +kernel
theorem dX0_touch_85 : decode cX0_touch 85 = .ok (.baload, 1) := by decide +kernel
theorem dX0_touch_86 : decode cX0_touch 86 = .ok (.ifCond .ne 12, 3) := by decide +kernel
theorem dX0_touch_89 : decode cX0_touch 89 = .ok (.aload_n 0, 1) := by decide +kernel
theorem dX0_touch_90 : decode cX0_touch 90 = .ok (.getfield 13, 3) := by decide +kernel
theorem dX0_touch_93 : decode cX0_touch 93 = .ok (.iload_n 2, 1) := by decide +kernel
theorem dX0_touch_94 : decode cX0_touch 94 = .ok (.baload, 1) := by decide +kernel
theorem dX0_touch_95 : decode cX0_touch 95 = .ok (.ifCond .eq 7, 3) := by decide +kernel
theorem dX0_touch_98 : decode cX0_touch 98 = .ok (.iconst 1, 1) := by decide +kernel
theorem dX0_touch_99 : decode cX0_touch 99 = .ok (.goto 4, 3) := by decide +kernel
theorem dX0_touch_102 : decode cX0_touch 102 = .ok (.iconst 0, 1) := by decide +kernel
theorem dX0_touch_103 : decode cX0_touch 103 = .ok (.ireturn, 1) := by decide +kernel
theorem dX0_canStick_0 : decode cX0_canStick 0 = .ok (.aload_n 0, 1) := by decide +kernel
theorem dX0_canStick_1 : decode cX0_canStick 1 = .ok (.iconst 1, 1) := by decide +kernel
theorem dX0_canStick_2 : decode cX0_canStick 2 = .ok (.invokevirtual 72, 3) := by decide +kernel
theorem dX0_canStick_5 : decode cX0_canStick 5 = .ok (.ifCond .le 7, 3) := by decide +kernel
theorem dX0_canStick_8 : decode cX0_canStick 8 = .ok (.iconst 1, 1) := by decide +kernel
theorem dX0_canStick_9 : decode cX0_canStick 9 = .ok (.goto 4, 3) := by decide +kernel
theorem dX0_canStick_12 : decode cX0_canStick 12 = .ok (.iconst 0, 1) := by decide +kernel
theorem dX0_canStick_13 : decode cX0_canStick 13 = .ok (.ireturn, 1) := by decide +kernel
theorem dX0_canEnd_0 : decode cX0_canEnd 0 = .ok (.aload_n 0, 1) := by decide +kernel
theorem dX0_canEnd_1 : decode cX0_canEnd 1 = .ok (.iload_n 1, 1) := by decide +kernel
theorem dX0_canEnd_2 : decode cX0_canEnd 2 = .ok (.iload_n 2, 1) := by decide +kernel
theorem dX0_canEnd_3 : decode cX0_canEnd 3 = .ok (.iload_n 1, 1) := by decide +kernel
theorem dX0_canEnd_4 : decode cX0_canEnd 4 = .ok (.iload_n 2, 1) := by decide +kernel
theorem dX0_canEnd_5 : decode cX0_canEnd 5 = .ok (.invokevirtual 128, 3) := by decide +kernel
theorem dX0_canEnd_8 : decode cX0_canEnd 8 = .ok (.ireturn, 1) := by decide +kernel
theorem dX0_canEndBoth_0 : decode cX0_canEndBoth 0 = .ok (.iload_n 1, 1) := by decide +kernel
theorem dX0_canEndBoth_1 : decode cX0_canEndBoth 1 = .ok (.invokestatic 56, 3) := by decide +kernel
theorem dX0_canEndBoth_4 : decode cX0_canEndBoth 4 = .ok (.ifCond .eq 10, 3) := by decide +kernel
theorem dX0_canEndBoth_7 : decode cX0_canEndBoth 7 = .ok (.iload_n 3, 1) := by decide +kernel
theorem dX0_canEndBoth_8 : decode cX0_canEndBoth 8 = .ok (.invokestatic 56, 3) := by decide +kernel
theorem dX0_canEndBoth_11 : decode cX0_canEndBoth 11 = .ok (.ifCond .ne 5, 3) := by decide +kernel
theorem dX0_canEndBoth_14 : decode cX0_canEndBoth 14 = .ok (.iconst 0, 1) := by decide +kernel
theorem dX0_canEndBoth_15 : decode cX0_canEndBoth 15 = .ok (.ireturn, 1) := by decide +kernel
theorem dX0_canEndBoth_16 : decode cX0_canEndBoth 16 = .ok (.aload_n 0, 1) := by decide +kernel
theorem dX0_canEndBoth_17 : decode cX0_canEndBoth 17 = .ok (.iconst 1, 1) := by decide +kernel
theorem dX0_canEndBoth_18 : decode cX0_canEndBoth 18 = .ok (.putfield 88, 3) := by decide +kernel
theorem dX0_canEndBoth_21 : decode cX0_canEndBoth 21 = .ok (.aload_n 0, 1) := by decide +kernel
theorem dX0_canEndBoth_22 : decode cX0_canEndBoth 22 = .ok (.iload_n 1, 1) := by decide +kernel
theorem dX0_canEndBoth_23 : decode cX0_canEndBoth 23 = .ok (.putfield 113, 3) := by decide +kernel
theorem dX0_canEndBoth_26 : decode cX0_canEndBoth 26 = .ok (.aload_n 0, 1) := by decide +kernel
theorem dX0_canEndBoth_27 : decode cX0_canEndBoth 27 = .ok (.iload_n 2, 1) := by decide +kernel
theorem dX0_canEndBoth_28 : decode cX0_canEndBoth 28 = .ok (.putfield 116, 3) := by decide +kernel
theorem dX0_canEndBoth_31 : decode cX0_canEndBoth 31 = .ok (.aload_n 0, 1) := by decide +kernel
theorem dX0_canEndBoth_32 : decode cX0_canEndBoth 32 = .ok (.iload_n 3, 1) := by decide +kernel
theorem dX0_canEndBoth_33 : decode cX0_canEndBoth 33 = .ok (.putfield 119, 3) := by decide +kernel
theorem dX0_canEndBoth_36 : decode cX0_canEndBoth 36 = .ok (.aload_n 0, 1) := by decide +kernel
theorem dX0_canEndBoth_37 : decode cX0_canEndBoth 37 = .ok (.iload 4, 2) := by decide +kernel
theorem dX0_canEndBoth_39 : decode cX0_canEndBoth 39 = .ok (.putfield 122, 3) := by decide +kernel
theorem dX0_canEndBoth_42 : decode cX0_canEndBoth 42 = .ok (.aload_n 0, 1) := by decide +kernel
theorem dX0_canEndBoth_43 : decode cX0_canEndBoth 43 = .ok (.invokevirtual 125, 3) := by decide +kernel
theorem dX0_canEndBoth_46 : decode cX0_canEndBoth 46 = .ok (.aload_n 0, 1) := by decide +kernel
theorem dX0_canEndBoth_47 : decode cX0_canEndBoth 47 = .ok (.getfield 83, 3) := by decide +kernel
theorem dX0_canEndBoth_50 : decode cX0_canEndBoth 50 = .ok (.ireturn, 1) := by decide +kernel
theorem dX0_extreme_0 : decode cX0_extreme 0 = .ok (.iload_n 1, 1) := by decide +kernel
theorem dX0_extreme_1 : decode cX0_extreme 1 = .ok (.invokestatic 56, 3) := by decide +kernel
theorem dX0_extreme_4 : decode cX0_extreme 4 = .ok (.ifCond .eq 12, 3) := by decide +kernel
theorem dX0_extreme_7 : decode cX0_extreme 7 = .ok (.iload_n 2, 1) := by decide +kernel
theorem dX0_extreme_8 : decode cX0_extreme 8 = .ok (.ifCond .lt 8, 3) := by decide +kernel
theorem dX0_extreme_11 : decode cX0_extreme 11 = .ok (.iload_n 2, 1) := by decide +kernel
theorem dX0_extreme_12 : decode cX0_extreme 12 = .ok (.iconst 1, 1) := by decide +kernel
theorem dX0_extreme_13 : decode cX0_extreme 13 = .ok (.if_icmp .le 5, 3) := by decide +kernel
theorem dX0_extreme_16 : decode cX0_extreme 16 = .ok (.iconst 0, 1) := by decide +kernel
theorem dX0_extreme_17 : decode cX0_extreme 17 = .ok (.ireturn, 1) := by decide +kernel
theorem dX0_extreme_18 : decode cX0_extreme 18 = .ok (.aload_n 0, 1) := by decide +kernel
theorem dX0_extreme_19 : decode cX0_extreme 19 = .ok (.invokevirtual 76, 3) := by decide +kernel
theorem dX0_extreme_22 : decode cX0_extreme 22 = .ok (.iload_n 2, 1) := by decide +kernel
theorem dX0_extreme_23 : decode cX0_extreme 23 = .ok (.ifCond .ne 12, 3) := by decide +kernel
theorem dX0_extreme_26 : decode cX0_extreme 26 = .ok (.aload_n 0, 1) := by decide +kernel
theorem dX0_extreme_27 : decode cX0_extreme 27 = .ok (.getfield 44, 3) := by decide +kernel
theorem dX0_extreme_30 : decode cX0_extreme 30 = .ok (.iload_n 1, 1) := by decide +kernel
theorem dX0_extreme_31 : decode cX0_extreme 31 = .ok (.iaload, 1) := by decide +kernel
theorem dX0_extreme_32 : decode cX0_extreme 32 = .ok (.goto 9, 3) := by decide +kernel
theorem dX0_extreme_35 : decode cX0_extreme 35 = .ok (.aload_n 0, 1) := by decide +kernel
theorem dX0_extreme_36 : decode cX0_extreme 36 = .ok (.getfield 47, 3) := by decide +kernel
theorem dX0_extreme_39 : decode cX0_extreme 39 = .ok (.iload_n 1, 1) := by decide +kernel
theorem dX0_extreme_40 : decode cX0_extreme 40 = .ok (.iaload, 1) := by decide +kernel
theorem dX0_extreme_41 : decode cX0_extreme 41 = .ok (.ireturn, 1) := by decide +kernel
theorem dX0_accumulator_0 : decode cX0_accumulator 0 = .ok (.iload_n 1, 1) := by decide +kernel
theorem dX0_accumulator_1 : decode cX0_accumulator 1 = .ok (.invokestatic 56, 3) := by decide +kernel
theorem dX0_accumulator_4 : decode cX0_accumulator 4 = .ok (.ifCond .eq 12, 3) := by decide +kernel
theorem dX0_accumulator_7 : decode cX0_accumulator 7 = .ok (.iload_n 2, 1) := by decide +kernel
theorem dX0_accumulator_8 : decode cX0_accumulator 8 = .ok (.ifCond .lt 8, 3) := by decide +kernel
theorem dX0_accumulator_11 : decode cX0_accumulator 11 = .ok (.iload_n 2, 1) := by decide +kernel
theorem dX0_accumulator_12 : decode cX0_accumulator 12 = .ok (.iconst 1, 1) := by decide +kernel
theorem dX0_accumulator_13 : decode cX0_accumulator 13 = .ok (.if_icmp .le 5, 3) := by decide +kernel
theorem dX0_accumulator_16 : decode cX0_accumulator 16 = .ok (.iconst 0, 1) := by decide +kernel
theorem dX0_accumulator_17 : decode cX0_accumulator 17 = .ok (.ireturn, 1) := by decide +kernel
theorem dX0_accumulator_18 : decode cX0_accumulator 18 = .ok (.aload_n 0, 1) := by decide +kernel
theorem dX0_accumulator_19 : decode cX0_accumulator 19 = .ok (.invokevirtual 76, 3) := by decide +kernel
theorem dX0_accumulator_22 : decode cX0_accumulator 22 = .ok (.iload_n 2, 1) := by decide +kernel
theorem dX0_accumulator_23 : decode cX0_accumulator 23 = .ok (.ifCond .ne 12, 3) := by decide +kernel
theorem dX0_accumulator_26 : decode cX0_accumulator 26 = .ok (.aload_n 0, 1) := by decide +kernel
theorem dX0_accumulator_27 : decode cX0_accumulator 27 = .ok (.getfield 50, 3) := by decide +kernel
theorem dX0_accumulator_30 : decode cX0_accumulator 30 = .ok (.iload_n 1, 1) := by decide +kernel
theorem dX0_accumulator_31 : decode cX0_accumulator 31 = .ok (.iaload, 1) := by decide +kernel
theorem dX0_accumulator_32 : decode cX0_accumulator 32 = .ok (.goto 9, 3) := by decide +kernel
theorem dX0_accumulator_35 : decode cX0_accumulator 35 = .ok (.aload_n 0, 1) := by decide +kernel
theorem dX0_accumulator_36 : decode cX0_accumulator 36 = .ok (.getfield 53, 3) := by decide +kernel
theorem dX0_accumulator_39 : decode cX0_accumulator 39 = .ok (.iload_n 1, 1) := by decide +kernel
theorem dX0_accumulator_40 : decode cX0_accumulator 40 = .ok (.iaload, 1) := by decide +kernel
theorem dX0_accumulator_41 : decode cX0_accumulator 41 = .ok (.ireturn, 1) := by decide +kernel
theorem dX0_races_0 : decode cX0_races 0 = .ok (.iload_n 1, 1) := by decide +kernel
theorem dX0_races_1 : decode cX0_races 1 = .ok (.invokestatic 56, 3) := by decide +kernel
theorem dX0_races_4 : decode cX0_races 4 = .ok (.ifCond .ne 5, 3) := by decide +kernel
theorem dX0_races_7 : decode cX0_races 7 = .ok (.iconst 0, 1) := by decide +kernel
theorem dX0_races_8 : decode cX0_races 8 = .ok (.ireturn, 1) := by decide +kernel
theorem dX0_races_9 : decode cX0_races 9 = .ok (.aload_n 0, 1) := by decide +kernel
theorem dX0_races_10 : decode cX0_races 10 = .ok (.invokevirtual 76, 3) := by decide +kernel
theorem dX0_races_13 : decode cX0_races 13 = .ok (.aload_n 0, 1) := by decide +kernel
theorem dX0_races_14 : decode cX0_races 14 = .ok (.getfield 44, 3) := by decide +kernel
theorem dX0_races_17 : decode cX0_races 17 = .ok (.iload_n 1, 1) := by decide +kernel
theorem dX0_races_18 : decode cX0_races 18 = .ok (.iaload, 1) := by decide +kernel
theorem dX0_races_19 : decode cX0_races 19 = .ok (.aload_n 0, 1) := by decide +kernel
theorem dX0_races_20 : decode cX0_races 20 = .ok (.getfield 47, 3) := by decide +kernel
theorem dX0_races_23 : decode cX0_races 23 = .ok (.iload_n 1, 1) := by decide +kernel
theorem dX0_races_24 : decode cX0_races 24 = .ok (.iaload, 1) := by decide +kernel
theorem dX0_races_25 : decode cX0_races 25 = .ok (.if_icmp .eq 7, 3) := by decide +kernel
theorem dX0_races_28 : decode cX0_races 28 = .ok (.iconst 1, 1) := by decide +kernel
theorem dX0_races_29 : decode cX0_races 29 = .ok (.goto 4, 3) := by decide +kernel
theorem dX0_races_32 : decode cX0_races 32 = .ok (.iconst 0, 1) := by decide +kernel
theorem dX0_races_33 : decode cX0_races 33 = .ok (.ireturn, 1) := by decide +kernel
end
section
set_option maxRecDepth 100000
theorem dX1_init_0 : decode cX1_init 0 = .ok (.aload_n 0, 1) := by decide +kernel
theorem dX1_init_1 : decode cX1_init 1 = .ok (.invokespecial 1, 3) := by decide +kernel
theorem dX1_init_4 : decode cX1_init 4 = .ok (.aload_n 0, 1) := by decide +kernel
theorem dX1_init_5 : decode cX1_init 5 = .ok (.iconst 3, 1) := by decide +kernel
theorem dX1_init_6 : decode cX1_init 6 = .ok (.newarray .int, 2) := by decide +kernel
theorem dX1_init_8 : decode cX1_init 8 = .ok (.putfield 7, 3) := by decide +kernel
theorem dX1_init_11 : decode cX1_init 11 = .ok (.aload_n 0, 1) := by decide +kernel
theorem dX1_init_12 : decode cX1_init 12 = .ok (.bipush 12, 2) := by decide +kernel
theorem dX1_init_14 : decode cX1_init 14 = .ok (.newarray .int, 2) := by decide +kernel
theorem dX1_init_16 : decode cX1_init 16 = .ok (.putfield 13, 3) := by decide +kernel
theorem dX1_init_19 : decode cX1_init 19 = .ok (.aload_n 0, 1) := by decide +kernel
theorem dX1_init_20 : decode cX1_init 20 = .ok (.bipush 12, 2) := by decide +kernel
theorem dX1_init_22 : decode cX1_init 22 = .ok (.newarray .int, 2) := by decide +kernel
theorem dX1_init_24 : decode cX1_init 24 = .ok (.putfield 16, 3) := by decide +kernel
theorem dX1_init_27 : decode cX1_init 27 = .ok (.aload_n 0, 1) := by decide +kernel
theorem dX1_init_28 : decode cX1_init 28 = .ok (.bipush 6, 2) := by decide +kernel
theorem dX1_init_30 : decode cX1_init 30 = .ok (.newarray .int, 2) := by decide +kernel
theorem dX1_init_32 : decode cX1_init 32 = .ok (.putfield 19, 3) := by decide +kernel
theorem dX1_init_35 : decode cX1_init 35 = .ok (.aload_n 0, 1) := by decide +kernel
theorem dX1_init_36 : decode cX1_init 36 = .ok (.bipush 12, 2) := by decide +kernel
theorem dX1_init_38 : decode cX1_init 38 = .ok (.newarray .int, 2) := by decide +kernel
theorem dX1_init_40 : decode cX1_init 40 = .ok (.putfield 22, 3) := by decide +kernel
theorem dX1_init_43 : decode cX1_init 43 = .ok (.aload_n 0, 1) := by decide +kernel
theorem dX1_init_44 : decode cX1_init 44 = .ok (.bipush 12, 2) := by decide +kernel
theorem dX1_init_46 : decode cX1_init 46 = .ok (.newarray .int, 2) := by decide +kernel
theorem dX1_init_48 : decode cX1_init 48 = .ok (.putfield 25, 3) := by decide +kernel
theorem dX1_init_51 : decode cX1_init 51 = .ok (.aload_n 0, 1) := by decide +kernel
theorem dX1_init_52 : decode cX1_init 52 = .ok (.bipush 6, 2) := by decide +kernel
theorem dX1_init_54 : decode cX1_init 54 = .ok (.newarray .int, 2) := by decide +kernel
theorem dX1_init_56 : decode cX1_init 56 = .ok (.putfield 28, 3) := by decide +kernel
theorem dX1_init_59 : decode cX1_init 59 = .ok (.aload_n 0, 1) := by decide +kernel
theorem dX1_init_60 : decode cX1_init 60 = .ok (.iconst 3, 1) := by decide +kernel
theorem dX1_init_61 : decode cX1_init 61 = .ok (.newarray .int, 2) := by decide +kernel
theorem dX1_init_63 : decode cX1_init 63 = .ok (.putfield 31, 3) := by decide +kernel
theorem dX1_init_66 : decode cX1_init 66 = .ok (.aload_n 0, 1) := by decide +kernel
theorem dX1_init_67 : decode cX1_init 67 = .ok (.iconst 2, 1) := by decide +kernel
theorem dX1_init_68 : decode cX1_init 68 = .ok (.newarray .int, 2) := by decide +kernel
theorem dX1_init_70 : decode cX1_init 70 = .ok (.putfield 34, 3) := by decide +kernel
theorem dX1_init_73 : decode cX1_init 73 = .ok (.return_, 1) := by decide +kernel
theorem dX1_step_0 : decode cX1_step 0 = .ok (.aload_n 0, 1) := by decide +kernel
theorem dX1_step_1 : decode cX1_step 1 = .ok (.iload_n 1, 1) := by decide +kernel
theorem dX1_step_2 : decode cX1_step 2 = .ok (.invokevirtual 37, 3) := by decide +kernel
theorem dX1_step_5 : decode cX1_step 5 = .ok (.ifCond .eq 40, 3) := by decide +kernel
theorem dX1_step_8 : decode cX1_step 8 = .ok (.iload_n 2, 1) := by decide +kernel
theorem dX1_step_9 : decode cX1_step 9 = .ok (.ifCond .lt 36, 3) := by decide +kernel
theorem dX1_step_12 : decode cX1_step 12 = .ok (.iload_n 2, 1) := by decide +kernel
theorem dX1_step_13 : decode cX1_step 13 = .ok (.iconst 5, 1) := by decide +kernel
theorem dX1_step_14 : decode cX1_step 14 = .ok (.if_icmp .gt 31, 3) := by decide +kernel
theorem dX1_step_17 : decode cX1_step 17 = .ok (.iload_n 2, 1) := by decide +kernel
theorem dX1_step_18 : decode cX1_step 18 = .ok (.iconst 2, 1) := by decide +kernel
theorem dX1_step_19 : decode cX1_step 19 = .ok (.if_icmp .gt 12, 3) := by decide +kernel
theorem dX1_step_22 : decode cX1_step 22 = .ok (.iload_n 3, 1) := by decide +kernel
theorem dX1_step_23 : decode cX1_step 23 = .ok (.ifCond .lt 22, 3) := by decide +kernel
theorem dX1_step_26 : decode cX1_step 26 = .ok (.iload_n 3, 1) := by decide +kernel
theorem dX1_step_27 : decode cX1_step 27 = .ok (.iconst 2, 1) := by decide +kernel
theorem dX1_step_28 : decode cX1_step 28 = .ok (.if_icmp .gt 17, 3) := by decide +kernel
theorem dX1_step_31 : decode cX1_step 31 = .ok (.iload_n 2, 1) := by decide +kernel
theorem dX1_step_32 : decode cX1_step 32 = .ok (.iconst 4, 1) := by decide +kernel
theorem dX1_step_33 : decode cX1_step 33 = .ok (.if_icmp .lt 14, 3) := by decide +kernel
theorem dX1_step_36 : decode cX1_step 36 = .ok (.iload_n 3, 1) := by decide +kernel
theorem dX1_step_37 : decode cX1_step 37 = .ok (.ifCond .eq 10, 3) := by decide +kernel
theorem dX1_step_40 : decode cX1_step 40 = .ok (.iload_n 3, 1) := by decide +kernel
theorem dX1_step_41 : decode cX1_step 41 = .ok (.iconst 1, 1) := by decide +kernel
theorem dX1_step_42 : decode cX1_step 42 = .ok (.if_icmp .eq 5, 3) := by decide +kernel
theorem dX1_step_45 : decode cX1_step 45 = .ok (.iconst (-1), 1) := by decide +kernel
theorem dX1_step_46 : decode cX1_step 46 = .ok (.ireturn, 1) := by decide +kernel
theorem dX1_step_47 : decode cX1_step 47 = .ok (.aload_n 0, 1) := by decide +kernel
theorem dX1_step_48 : decode cX1_step 48 = .ok (.getfield 7, 3) := by decide +kernel
theorem dX1_step_51 : decode cX1_step 51 = .ok (.iload_n 1, 1) := by decide +kernel
theorem dX1_step_52 : decode cX1_step 52 = .ok (.iaload, 1) := by decide +kernel
theorem dX1_step_53 : decode cX1_step 53 = .ok (.iconst 4, 1) := by decide +kernel
theorem dX1_step_54 : decode cX1_step 54 = .ok (.if_icmp .lt 6, 3) := by decide +kernel
theorem dX1_step_57 : decode cX1_step 57 = .ok (.bipush (-2), 2) := by decide +kernel
theorem dX1_step_59 : decode cX1_step 59 = .ok (.ireturn, 1) := by decide +kernel
theorem dX1_step_60 : decode cX1_step 60 = .ok (.aload_n 0, 1) := by decide +kernel
theorem dX1_step_61 : decode cX1_step 61 = .ok (.getfield 13, 3) := by decide +kernel
theorem dX1_step_64 : decode cX1_step 64 = .ok (.iconst 4, 1) := by decide +kernel
theorem dX1_step_65 : decode cX1_step 65 = .ok (.iload_n 1, 1) := by decide +kernel
theorem dX1_step_66 : decode cX1_step 66 = .ok (.imul, 1) := by decide +kernel
theorem dX1_step_67 : decode cX1_step 67 = .ok (.aload_n 0, 1) := by decide +kernel
theorem dX1_step_68 : decode cX1_step 68 = .ok (.getfield 7, 3) := by decide +kernel
theorem dX1_step_71 : decode cX1_step 71 = .ok (.iload_n 1, 1) := by decide +kernel
theorem dX1_step_72 : decode cX1_step 72 = .ok (.iaload, 1) := by decide +kernel
theorem dX1_step_73 : decode cX1_step 73 = .ok (.iadd, 1) := by decide +kernel
theorem dX1_step_74 : decode cX1_step 74 = .ok (.iload_n 2, 1) := by decide +kernel
theorem dX1_step_75 : decode cX1_step 75 = .ok (.iastore, 1) := by decide +kernel
theorem dX1_step_76 : decode cX1_step 76 = .ok (.aload_n 0, 1) := by decide +kernel
theorem dX1_step_77 : decode cX1_step 77 = .ok (.getfield 16, 3) := by decide +kernel
theorem dX1_step_80 : decode cX1_step 80 = .ok (.iconst 4, 1) := by decide +kernel
theorem dX1_step_81 : decode cX1_step 81 = .ok (.iload_n 1, 1) := by decide +kernel
theorem dX1_step_82 : decode cX1_step 82 = .ok (.imul, 1) := by decide +kernel
theorem dX1_step_83 : decode cX1_step 83 = .ok (.aload_n 0, 1) := by decide +kernel
theorem dX1_step_84 : decode cX1_step 84 = .ok (.getfield 7, 3) := by decide +kernel
theorem dX1_step_87 : decode cX1_step 87 = .ok (.iload_n 1, 1) := by decide +kernel
theorem dX1_step_88 : decode cX1_step 88 = .ok (.iaload, 1) := by decide +kernel
theorem dX1_step_89 : decode cX1_step 89 = .ok (.iadd, 1) := by decide +kernel
theorem dX1_step_90 : decode cX1_step 90 = .ok (.iload_n 3, 1) := by decide +kernel
theorem dX1_step_91 : decode cX1_step 91 = .ok (.iastore, 1) := by decide +kernel
theorem dX1_step_92 : decode cX1_step 92 = .ok (.aload_n 0, 1) := by decide +kernel
theorem dX1_step_93 : decode cX1_step 93 = .ok (.getfield 7, 3) := by decide +kernel
theorem dX1_step_96 : decode cX1_step 96 = .ok (.iload_n 1, 1) := by decide +kernel
theorem dX1_step_97 : decode cX1_step 97 = .ok (.dup2, 1) := by decide +kernel
theorem dX1_step_98 : decode cX1_step 98 = .ok (.iaload, 1) := by decide +kernel
theorem dX1_step_99 : decode cX1_step 99 = .ok (.iconst 1, 1) := by decide +kernel
theorem dX1_step_100 : decode cX1_step 100 = .ok (.iadd, 1) := by decide +kernel
theorem dX1_step_101 : decode cX1_step 101 = .ok (.iastore, 1) := by decide +kernel
theorem dX1_step_102 : decode cX1_step 102 = .ok (.aload_n 0, 1) := by decide +kernel
theorem dX1_step_103 : decode cX1_step 103 = .ok (.getfield 7, 3) := by decide +kernel
theorem dX1_step_106 : decode cX1_step 106 = .ok (.iload_n 1, 1) := by decide +kernel
theorem dX1_step_107 : decode cX1_step 107 = .ok (.iaload, 1) := by decide +kernel
theorem dX1_step_108 : decode cX1_step 108 = .ok (.iconst 1, 1) := by decide +kernel
theorem dX1_step_109 : decode cX1_step 109 = .ok (.isub, 1) := by decide +kernel
theorem dX1_step_110 : decode cX1_step 110 = .ok (.ireturn, 1) := by decide +kernel
theorem dX1_thread_0 : decode cX1_thread 0 = .ok (.iload_n 1, 1) := by decide +kernel
theorem dX1_thread_1 : decode cX1_thread 1 = .ok (.ifCond .lt 12, 3) := by decide +kernel
theorem dX1_thread_4 : decode cX1_thread 4 = .ok (.iload_n 1, 1) := by decide +kernel
theorem dX1_thread_5 : decode cX1_thread 5 = .ok (.iconst 2, 1) := by decide +kernel
theorem dX1_thread_6 : decode cX1_thread 6 = .ok (.if_icmp .gt 7, 3) := by decide +kernel
theorem dX1_thread_9 : decode cX1_thread 9 = .ok (.iconst 1, 1) := by decide +kernel
theorem dX1_thread_10 : decode cX1_thread 10 = .ok (.goto 4, 3) := by decide +kernel
theorem dX1_thread_13 : decode cX1_thread 13 = .ok (.iconst 0, 1) := by decide +kernel
theorem dX1_thread_14 : decode cX1_thread 14 = .ok (.ireturn, 1) := by decide +kernel
theorem dX1_drop_0 : decode cX1_drop 0 = .ok (.aload_n 0, 1) := by decide +kernel
theorem dX1_drop_1 : decode cX1_drop 1 = .ok (.iload_n 1, 1) := by decide +kernel
theorem dX1_drop_2 : decode cX1_drop 2 = .ok (.invokevirtual 37, 3) := by decide +kernel
theorem dX1_drop_5 : decode cX1_drop 5 = .ok (.ifCond .eq 12, 3) := by decide +kernel
theorem dX1_drop_8 : decode cX1_drop 8 = .ok (.aload_n 0, 1) := by decide +kernel
theorem dX1_drop_9 : decode cX1_drop 9 = .ok (.getfield 7, 3) := by decide +kernel
theorem dX1_drop_12 : decode cX1_drop 12 = .ok (.iload_n 1, 1) := by decide +kernel
theorem dX1_drop_13 : decode cX1_drop 13 = .ok (.iaload, 1) := by decide +kernel
theorem dX1_drop_14 : decode cX1_drop 14 = .ok (.ifCond .ne 5, 3) := by decide +kernel
theorem dX1_drop_17 : decode cX1_drop 17 = .ok (.iconst (-1), 1) := by decide +kernel
theorem dX1_drop_18 : decode cX1_drop 18 = .ok (.ireturn, 1) := by decide +kernel
theorem dX1_drop_19 : decode cX1_drop 19 = .ok (.aload_n 0, 1) := by decide +kernel
theorem dX1_drop_20 : decode cX1_drop 20 = .ok (.getfield 7, 3) := by decide +kernel
theorem dX1_drop_23 : decode cX1_drop 23 = .ok (.iload_n 1, 1) := by decide +kernel
theorem dX1_drop_24 : decode cX1_drop 24 = .ok (.dup2, 1) := by decide +kernel
theorem dX1_drop_25 : decode cX1_drop 25 = .ok (.iaload, 1) := by decide +kernel
theorem dX1_drop_26 : decode cX1_drop 26 = .ok (.iconst 1, 1) := by decide +kernel
theorem dX1_drop_27 : decode cX1_drop 27 = .ok (.isub, 1) := by decide +kernel
theorem dX1_drop_28 : decode cX1_drop 28 = .ok (.iastore, 1) := by decide +kernel
theorem dX1_drop_29 : decode cX1_drop 29 = .ok (.aload_n 0, 1) := by decide +kernel
theorem dX1_drop_30 : decode cX1_drop 30 = .ok (.getfield 7, 3) := by decide +kernel
theorem dX1_drop_33 : decode cX1_drop 33 = .ok (.iload_n 1, 1) := by decide +kernel
theorem dX1_drop_34 : decode cX1_drop 34 = .ok (.iaload, 1) := by decide +kernel
theorem dX1_drop_35 : decode cX1_drop 35 = .ok (.ireturn, 1) := by decide +kernel
theorem dX1_begin_0 : decode cX1_begin 0 = .ok (.iload_n 1, 1) := by decide +kernel
theorem dX1_begin_1 : decode cX1_begin 1 = .ok (.ifCond .eq 8, 3) := by decide +kernel
theorem dX1_begin_4 : decode cX1_begin 4 = .ok (.iload_n 1, 1) := by decide +kernel
theorem dX1_begin_5 : decode cX1_begin 5 = .ok (.iconst 1, 1) := by decide +kernel
theorem dX1_begin_6 : decode cX1_begin 6 = .ok (.if_icmp .ne 12, 3) := by decide +kernel
theorem dX1_begin_9 : decode cX1_begin 9 = .ok (.iload_n 2, 1) := by decide +kernel
theorem dX1_begin_10 : decode cX1_begin 10 = .ok (.ifCond .lt 8, 3) := by decide +kernel
theorem dX1_begin_13 : decode cX1_begin 13 = .ok (.iload_n 2, 1) := by decide +kernel
theorem dX1_begin_14 : decode cX1_begin 14 = .ok (.iconst 2, 1) := by decide +kernel
theorem dX1_begin_15 : decode cX1_begin 15 = .ok (.if_icmp .le 5, 3) := by decide +kernel
theorem dX1_begin_18 : decode cX1_begin 18 = .ok (.iconst 0, 1) := by decide +kernel
theorem dX1_begin_19 : decode cX1_begin 19 = .ok (.ireturn, 1) := by decide +kernel
theorem dX1_begin_20 : decode cX1_begin 20 = .ok (.aload_n 0, 1) := by decide +kernel
theorem dX1_begin_21 : decode cX1_begin 21 = .ok (.getfield 19, 3) := by decide +kernel
theorem dX1_begin_24 : decode cX1_begin 24 = .ok (.iconst 3, 1) := by decide +kernel
theorem dX1_begin_25 : decode cX1_begin 25 = .ok (.iload_n 1, 1) := by decide +kernel
theorem dX1_begin_26 : decode cX1_begin 26 = .ok (.imul, 1) := by decide +kernel
theorem dX1_begin_27 : decode cX1_begin 27 = .ok (.iload_n 2, 1) := by decide +kernel
theorem dX1_begin_28 : decode cX1_begin 28 = .ok (.iadd, 1) := by decide +kernel
theorem dX1_begin_29 : decode cX1_begin 29 = .ok (.iload_n 3, 1) := by decide +kernel
theorem dX1_begin_30 : decode cX1_begin 30 = .ok (.iastore, 1) := by decide +kernel
theorem dX1_begin_31 : decode cX1_begin 31 = .ok (.iconst 1, 1) := by decide +kernel
theorem dX1_begin_32 : decode cX1_begin 32 = .ok (.ireturn, 1) := by decide +kernel
theorem dX1_length_0 : decode cX1_length 0 = .ok (.aload_n 0, 1) := by decide +kernel
theorem dX1_length_1 : decode cX1_length 1 = .ok (.iload_n 1, 1) := by decide +kernel
theorem dX1_length_2 : decode cX1_length 2 = .ok (.invokevirtual 37, 3) := by decide +kernel
theorem dX1_length_5 : decode cX1_length 5 = .ok (.ifCond .eq 12, 3) := by decide +kernel
theorem dX1_length_8 : decode cX1_length 8 = .ok (.aload_n 0, 1) := by decide +kernel
theorem dX1_length_9 : decode cX1_length 9 = .ok (.getfield 7, 3) := by decide +kernel
theorem dX1_length_12 : decode cX1_length 12 = .ok (.iload_n 1, 1) := by decide +kernel
theorem dX1_length_13 : decode cX1_length 13 = .ok (.iaload, 1) := by decide +kernel
theorem dX1_length_14 : decode cX1_length 14 = .ok (.goto 4, 3) := by decide +kernel
theorem dX1_length_17 : decode cX1_length 17 = .ok (.iconst (-1), 1) := by decide +kernel
theorem dX1_length_18 : decode cX1_length 18 = .ok (.ireturn, 1) := by decide +kernel
theorem dX1_schedules_0 : decode cX1_schedules 0 = .ok (.iconst 0, 1) := by decide +kernel
theorem dX1_schedules_1 : decode cX1_schedules 1 = .ok (.istore_n 1, 1) := by decide +kernel
theorem dX1_schedules_2 : decode cX1_schedules 2 = .ok (.aload_n 0, 1) := by decide +kernel
theorem dX1_schedules_3 : decode cX1_schedules 3 = .ok (.invokevirtual 62, 3) := by decide +kernel
theorem dX1_schedules_6 : decode cX1_schedules 6 = .ok (.iconst 1, 1) := by decide +kernel
theorem dX1_schedules_7 : decode cX1_schedules 7 = .ok (.istore_n 2, 1) := by decide +kernel
theorem dX1_schedules_8 : decode cX1_schedules 8 = .ok (.iload_n 2, 1) := by decide +kernel
theorem dX1_schedules_9 : decode cX1_schedules 9 = .ok (.ifCond .eq 20, 3) := by decide +kernel
theorem dX1_schedules_12 : decode cX1_schedules 12 = .ok (.iload_n 1, 1) := by decide +kernel
theorem dX1_schedules_13 : decode cX1_schedules 13 = .ok (.ldc 65, 2) := by decide +kernel
theorem dX1_schedules_15 : decode cX1_schedules 15 = .ok (.if_icmp .ge 14, 3) := by decide +kernel
theorem dX1_schedules_18 : decode cX1_schedules 18 = .ok (.iinc 1 1, 3) := by decide +kernel
theorem dX1_schedules_21 : decode cX1_schedules 21 = .ok (.aload_n 0, 1) := by decide +kernel
theorem dX1_schedules_22 : decode cX1_schedules 22 = .ok (.invokevirtual 66, 3) := by decide +kernel
theorem dX1_schedules_25 : decode cX1_schedules 25 = .ok (.istore_n 2, 1) := by decide +kernel
theorem dX1_schedules_26 : decode cX1_schedules 26 = .ok (.goto (-18), 3) := by decide +kernel
theorem dX1_schedules_29 : decode cX1_schedules 29 = .ok (.iload_n 1, 1) := by decide +kernel
theorem dX1_schedules_30 : decode cX1_schedules 30 = .ok (.ireturn, 1) := by decide +kernel
theorem dX1_first_0 : decode cX1_first 0 = .ok (.aload_n 0, 1) := by decide +kernel
theorem dX1_first_1 : decode cX1_first 1 = .ok (.iconst 0, 1) := by decide +kernel
theorem dX1_first_2 : decode cX1_first 2 = .ok (.putfield 45, 3) := by decide +kernel
theorem dX1_first_5 : decode cX1_first 5 = .ok (.aload_n 0, 1) := by decide +kernel
theorem dX1_first_6 : decode cX1_first 6 = .ok (.iconst 0, 1) := by decide +kernel
theorem dX1_first_7 : decode cX1_first 7 = .ok (.invokevirtual 52, 3) := by decide +kernel
theorem dX1_first_10 : decode cX1_first 10 = .ok (.aload_n 0, 1) := by decide +kernel
theorem dX1_first_11 : decode cX1_first 11 = .ok (.invokevirtual 55, 3) := by decide +kernel
theorem dX1_first_14 : decode cX1_first 14 = .ok (.return_, 1) := by decide +kernel
theorem dX1_replay_0 : decode cX1_replay 0 = .ok (.iconst 0, 1) := by decide +kernel
theorem dX1_replay_1 : decode cX1_replay 1 = .ok (.istore_n 2, 1) := by decide +kernel
theorem dX1_replay_2 : decode cX1_replay 2 = .ok (.iload_n 2, 1) := by decide +kernel
theorem dX1_replay_3 : decode cX1_replay 3 = .ok (.bipush 6, 2) := by decide +kernel
theorem dX1_replay_5 : decode cX1_replay 5 = .ok (.if_icmp .ge 21, 3) := by decide +kernel
theorem dX1_replay_8 : decode cX1_replay 8 = .ok (.aload_n 0, 1) := by decide +kernel
theorem dX1_replay_9 : decode cX1_replay 9 = .ok (.getfield 28, 3) := by decide +kernel
theorem dX1_replay_12 : decode cX1_replay 12 = .ok (.iload_n 2, 1) := by decide +kernel
theorem dX1_replay_13 : decode cX1_replay 13 = .ok (.aload_n 0, 1) := by decide +kernel
theorem dX1_replay_14 : decode cX1_replay 14 = .ok (.getfield 19, 3) := by decide +kernel
theorem dX1_replay_17 : decode cX1_replay 17 = .ok (.iload_n 2, 1) := by decide +kernel
theorem dX1_replay_18 : decode cX1_replay 18 = .ok (.iaload, 1) := by decide +kernel
theorem dX1_replay_19 : decode cX1_replay 19 = .ok (.iastore, 1) := by decide +kernel
theorem dX1_replay_20 : decode cX1_replay 20 = .ok (.iinc 2 1, 3) := by decide +kernel
theorem dX1_replay_23 : decode cX1_replay 23 = .ok (.goto (-21), 3) := by decide +kernel
theorem dX1_replay_26 : decode cX1_replay 26 = .ok (.iconst 0, 1) := by decide +kernel
theorem dX1_replay_27 : decode cX1_replay 27 = .ok (.istore_n 2, 1) := by decide +kernel
theorem dX1_replay_28 : decode cX1_replay 28 = .ok (.iload_n 2, 1) := by decide +kernel
theorem dX1_replay_29 : decode cX1_replay 29 = .ok (.iconst 3, 1) := by decide +kernel
theorem dX1_replay_30 : decode cX1_replay 30 = .ok (.if_icmp .ge 16, 3) := by decide +kernel
theorem dX1_replay_33 : decode cX1_replay 33 = .ok (.aload_n 0, 1) := by decide +kernel
theorem dX1_replay_34 : decode cX1_replay 34 = .ok (.getfield 31, 3) := by decide +kernel
theorem dX1_replay_37 : decode cX1_replay 37 = .ok (.iload_n 2, 1) := by decide +kernel
theorem dX1_replay_38 : decode cX1_replay 38 = .ok (.iconst 0, 1) := by decide +kernel
theorem dX1_replay_39 : decode cX1_replay 39 = .ok (.iastore, 1) := by decide +kernel
theorem dX1_replay_40 : decode cX1_replay 40 = .ok (.iinc 2 1, 3) := by decide +kernel
theorem dX1_replay_43 : decode cX1_replay 43 = .ok (.goto (-15), 3) := by decide +kernel
theorem dX1_replay_46 : decode cX1_replay 46 = .ok (.aload_n 0, 1) := by decide +kernel
theorem dX1_replay_47 : decode cX1_replay 47 = .ok (.getfield 34, 3) := by decide +kernel
theorem dX1_replay_50 : decode cX1_replay 50 = .ok (.iconst 0, 1) := by decide +kernel
theorem dX1_replay_51 : decode cX1_replay 51 = .ok (.iconst (-1), 1) := by decide +kernel
theorem dX1_replay_52 : decode cX1_replay 52 = .ok (.iastore, 1) := by decide +kernel
theorem dX1_replay_53 : decode cX1_replay 53 = .ok (.aload_n 0, 1) := by decide +kernel
theorem dX1_replay_54 : decode cX1_replay 54 = .ok (.getfield 34, 3) := by decide +kernel
theorem dX1_replay_57 : decode cX1_replay 57 = .ok (.iconst 1, 1) := by decide +kernel
theorem dX1_replay_58 : decode cX1_replay 58 = .ok (.iconst (-1), 1) := by decide +kernel
theorem dX1_replay_59 : decode cX1_replay 59 = .ok (.iastore, 1) := by decide +kernel
theorem dX1_replay_60 : decode cX1_replay 60 = .ok (.iconst 0, 1) := by decide +kernel
theorem dX1_replay_61 : decode cX1_replay 61 = .ok (.istore_n 2, 1) := by decide +kernel
theorem dX1_replay_62 : decode cX1_replay 62 = .ok (.iload_n 2, 1) := by decide +kernel
theorem dX1_replay_63 : decode cX1_replay 63 = .ok (.iload_n 1, 1) := by decide +kernel
theorem dX1_replay_64 : decode cX1_replay 64 = .ok (.if_icmp .ge 45, 3) := by decide +kernel
theorem dX1_replay_67 : decode cX1_replay 67 = .ok (.aload_n 0, 1) := by decide +kernel
theorem dX1_replay_68 : decode cX1_replay 68 = .ok (.getfield 25, 3) := by decide +kernel
theorem dX1_replay_71 : decode cX1_replay 71 = .ok (.iload_n 2, 1) := by decide +kernel
theorem dX1_replay_72 : decode cX1_replay 72 = .ok (.iconst 4, 1) := by decide +kernel
theorem dX1_replay_73 : decode cX1_replay 73 = .ok (.aload_n 0, 1) := by decide +kernel
theorem dX1_replay_74 : decode cX1_replay 74 = .ok (.getfield 22, 3) := by decide +kernel
theorem dX1_replay_77 : decode cX1_replay 77 = .ok (.iload_n 2, 1) := by decide +kernel
theorem dX1_replay_78 : decode cX1_replay 78 = .ok (.iaload, 1) := by decide +kernel
theorem dX1_replay_79 : decode cX1_replay 79 = .ok (.imul, 1) := by decide +kernel
theorem dX1_replay_80 : decode cX1_replay 80 = .ok (.aload_n 0, 1) := by decide +kernel
theorem dX1_replay_81 : decode cX1_replay 81 = .ok (.getfield 31, 3) := by decide +kernel
theorem dX1_replay_84 : decode cX1_replay 84 = .ok (.aload_n 0, 1) := by decide +kernel
theorem dX1_replay_85 : decode cX1_replay 85 = .ok (.getfield 22, 3) := by decide +kernel
theorem dX1_replay_88 : decode cX1_replay 88 = .ok (.iload_n 2, 1) := by decide +kernel
theorem dX1_replay_89 : decode cX1_replay 89 = .ok (.iaload, 1) := by decide +kernel
theorem dX1_replay_90 : decode cX1_replay 90 = .ok (.iaload, 1) := by decide +kernel
theorem dX1_replay_91 : decode cX1_replay 91 = .ok (.iadd, 1) := by decide +kernel
theorem dX1_replay_92 : decode cX1_replay 92 = .ok (.iastore, 1) := by decide +kernel
theorem dX1_replay_93 : decode cX1_replay 93 = .ok (.aload_n 0, 1) := by decide +kernel
theorem dX1_replay_94 : decode cX1_replay 94 = .ok (.aload_n 0, 1) := by decide +kernel
theorem dX1_replay_95 : decode cX1_replay 95 = .ok (.getfield 22, 3) := by decide +kernel
theorem dX1_replay_98 : decode cX1_replay 98 = .ok (.iload_n 2, 1) := by decide +kernel
theorem dX1_replay_99 : decode cX1_replay 99 = .ok (.iaload, 1) := by decide +kernel
theorem dX1_replay_100 : decode cX1_replay 100 = .ok (.invokevirtual 41, 3) := by decide +kernel
theorem dX1_replay_103 : decode cX1_replay 103 = .ok (.iinc 2 1, 3) := by decide +kernel
theorem dX1_replay_106 : decode cX1_replay 106 = .ok (.goto (-44), 3) := by decide +kernel
theorem dX1_replay_109 : decode cX1_replay 109 = .ok (.return_, 1) := by decide +kernel
theorem dX1_carryOut_0 : decode cX1_carryOut 0 = .ok (.iconst 4, 1) := by decide +kernel
theorem dX1_carryOut_1 : decode cX1_carryOut 1 = .ok (.iload_n 1, 1) := by decide +kernel
theorem dX1_carryOut_2 : decode cX1_carryOut 2 = .ok (.imul, 1) := by decide +kernel
theorem dX1_carryOut_3 : decode cX1_carryOut 3 = .ok (.aload_n 0, 1) := by decide +kernel
theorem dX1_carryOut_4 : decode cX1_carryOut 4 = .ok (.getfield 31, 3) := by decide +kernel
theorem dX1_carryOut_7 : decode cX1_carryOut 7 = .ok (.iload_n 1, 1) := by decide +kernel
theorem dX1_carryOut_8 : decode cX1_carryOut 8 = .ok (.iaload, 1) := by decide +kernel
theorem dX1_carryOut_9 : decode cX1_carryOut 9 = .ok (.iadd, 1) := by decide +kernel
theorem dX1_carryOut_10 : decode cX1_carryOut 10 = .ok (.istore_n 2, 1) := by decide +kernel
theorem dX1_carryOut_11 : decode cX1_carryOut 11 = .ok (.aload_n 0, 1) := by decide +kernel
theorem dX1_carryOut_12 : decode cX1_carryOut 12 = .ok (.getfield 13, 3) := by decide +kernel
theorem dX1_carryOut_15 : decode cX1_carryOut 15 = .ok (.iload_n 2, 1) := by decide +kernel
theorem dX1_carryOut_16 : decode cX1_carryOut 16 = .ok (.iaload, 1) := by decide +kernel
theorem dX1_carryOut_17 : decode cX1_carryOut 17 = .ok (.istore_n 3, 1) := by decide +kernel
theorem dX1_carryOut_18 : decode cX1_carryOut 18 = .ok (.aload_n 0, 1) := by decide +kernel
theorem dX1_carryOut_19 : decode cX1_carryOut 19 = .ok (.getfield 16, 3) := by decide +kernel
theorem dX1_carryOut_22 : decode cX1_carryOut 22 = .ok (.iload_n 2, 1) := by decide +kernel
theorem dX1_carryOut_23 : decode cX1_carryOut 23 = .ok (.iaload, 1) := by decide +kernel
theorem dX1_carryOut_24 : decode cX1_carryOut 24 = .ok (.istore 4, 2) := by decide +kernel
theorem dX1_carryOut_26 : decode cX1_carryOut 26 = .ok (.aload_n 0, 1) := by decide +kernel
theorem dX1_carryOut_27 : decode cX1_carryOut 27 = .ok (.getfield 28, 3) := by decide +kernel
theorem dX1_carryOut_30 : decode cX1_carryOut 30 = .ok (.iconst 3, 1) := by decide +kernel
theorem dX1_carryOut_31 : decode cX1_carryOut 31 = .ok (.iload_n 1, 1) := by decide +kernel
theorem dX1_carryOut_32 : decode cX1_carryOut 32 = .ok (.iadd, 1) := by decide +kernel
end
section
set_option maxRecDepth 100000
theorem dX1_carryOut_33 : decode cX1_carryOut 33 = .ok (.iaload, 1) := by decide +kernel
theorem dX1_carryOut_34 : decode cX1_carryOut 34 = .ok (.istore 5, 2) := by decide +kernel
theorem dX1_carryOut_36 : decode cX1_carryOut 36 = .ok (.iload_n 3, 1) := by decide +kernel
theorem dX1_carryOut_37 : decode cX1_carryOut 37 = .ok (.iconst 2, 1) := by decide +kernel
theorem dX1_carryOut_38 : decode cX1_carryOut 38 = .ok (.if_icmp .gt 53, 3) := by decide +kernel
theorem dX1_carryOut_41 : decode cX1_carryOut 41 = .ok (.aload_n 0, 1) := by decide +kernel
theorem dX1_carryOut_42 : decode cX1_carryOut 42 = .ok (.getfield 28, 3) := by decide +kernel
theorem dX1_carryOut_45 : decode cX1_carryOut 45 = .ok (.iload 4, 2) := by decide +kernel
theorem dX1_carryOut_47 : decode cX1_carryOut 47 = .ok (.iaload, 1) := by decide +kernel
theorem dX1_carryOut_48 : decode cX1_carryOut 48 = .ok (.istore 6, 2) := by decide +kernel
theorem dX1_carryOut_50 : decode cX1_carryOut 50 = .ok (.aload_n 0, 1) := by decide +kernel
theorem dX1_carryOut_51 : decode cX1_carryOut 51 = .ok (.getfield 28, 3) := by decide +kernel
theorem dX1_carryOut_54 : decode cX1_carryOut 54 = .ok (.iconst 3, 1) := by decide +kernel
theorem dX1_carryOut_55 : decode cX1_carryOut 55 = .ok (.iload_n 1, 1) := by decide +kernel
theorem dX1_carryOut_56 : decode cX1_carryOut 56 = .ok (.iadd, 1) := by decide +kernel
theorem dX1_carryOut_57 : decode cX1_carryOut 57 = .ok (.iload_n 3, 1) := by decide +kernel
theorem dX1_carryOut_58 : decode cX1_carryOut 58 = .ok (.iconst 1, 1) := by decide +kernel
theorem dX1_carryOut_59 : decode cX1_carryOut 59 = .ok (.if_icmp .ne 8, 3) := by decide +kernel
theorem dX1_carryOut_62 : decode cX1_carryOut 62 = .ok (.iload 5, 2) := by decide +kernel
theorem dX1_carryOut_64 : decode cX1_carryOut 64 = .ok (.goto 5, 3) := by decide +kernel
theorem dX1_carryOut_67 : decode cX1_carryOut 67 = .ok (.iload 6, 2) := by decide +kernel
theorem dX1_carryOut_69 : decode cX1_carryOut 69 = .ok (.iastore, 1) := by decide +kernel
theorem dX1_carryOut_70 : decode cX1_carryOut 70 = .ok (.aload_n 0, 1) := by decide +kernel
theorem dX1_carryOut_71 : decode cX1_carryOut 71 = .ok (.getfield 28, 3) := by decide +kernel
theorem dX1_carryOut_74 : decode cX1_carryOut 74 = .ok (.iload 4, 2) := by decide +kernel
theorem dX1_carryOut_76 : decode cX1_carryOut 76 = .ok (.iload_n 3, 1) := by decide +kernel
theorem dX1_carryOut_77 : decode cX1_carryOut 77 = .ok (.ifCond .ne 8, 3) := by decide +kernel
theorem dX1_carryOut_80 : decode cX1_carryOut 80 = .ok (.iload 6, 2) := by decide +kernel
theorem dX1_carryOut_82 : decode cX1_carryOut 82 = .ok (.goto 5, 3) := by decide +kernel
theorem dX1_carryOut_85 : decode cX1_carryOut 85 = .ok (.iload 5, 2) := by decide +kernel
theorem dX1_carryOut_87 : decode cX1_carryOut 87 = .ok (.iastore, 1) := by decide +kernel
theorem dX1_carryOut_88 : decode cX1_carryOut 88 = .ok (.goto 65, 3) := by decide +kernel
theorem dX1_carryOut_91 : decode cX1_carryOut 91 = .ok (.iload_n 3, 1) := by decide +kernel
theorem dX1_carryOut_92 : decode cX1_carryOut 92 = .ok (.iconst 3, 1) := by decide +kernel
theorem dX1_carryOut_93 : decode cX1_carryOut 93 = .ok (.if_icmp .ne 19, 3) := by decide +kernel
theorem dX1_carryOut_96 : decode cX1_carryOut 96 = .ok (.aload_n 0, 1) := by decide +kernel
theorem dX1_carryOut_97 : decode cX1_carryOut 97 = .ok (.getfield 28, 3) := by decide +kernel
theorem dX1_carryOut_100 : decode cX1_carryOut 100 = .ok (.iconst 3, 1) := by decide +kernel
theorem dX1_carryOut_101 : decode cX1_carryOut 101 = .ok (.iload_n 1, 1) := by decide +kernel
theorem dX1_carryOut_102 : decode cX1_carryOut 102 = .ok (.iadd, 1) := by decide +kernel
theorem dX1_carryOut_103 : decode cX1_carryOut 103 = .ok (.iload 5, 2) := by decide +kernel
theorem dX1_carryOut_105 : decode cX1_carryOut 105 = .ok (.iload 4, 2) := by decide +kernel
theorem dX1_carryOut_107 : decode cX1_carryOut 107 = .ok (.iadd, 1) := by decide +kernel
theorem dX1_carryOut_108 : decode cX1_carryOut 108 = .ok (.iastore, 1) := by decide +kernel
theorem dX1_carryOut_109 : decode cX1_carryOut 109 = .ok (.goto 44, 3) := by decide +kernel
theorem dX1_carryOut_112 : decode cX1_carryOut 112 = .ok (.iload_n 3, 1) := by decide +kernel
theorem dX1_carryOut_113 : decode cX1_carryOut 113 = .ok (.iconst 4, 1) := by decide +kernel
theorem dX1_carryOut_114 : decode cX1_carryOut 114 = .ok (.if_icmp .ne 16, 3) := by decide +kernel
theorem dX1_carryOut_117 : decode cX1_carryOut 117 = .ok (.aload_n 0, 1) := by decide +kernel
theorem dX1_carryOut_118 : decode cX1_carryOut 118 = .ok (.getfield 34, 3) := by decide +kernel
theorem dX1_carryOut_121 : decode cX1_carryOut 121 = .ok (.iload 4, 2) := by decide +kernel
theorem dX1_carryOut_123 : decode cX1_carryOut 123 = .ok (.iconst 1, 1) := by decide +kernel
theorem dX1_carryOut_124 : decode cX1_carryOut 124 = .ok (.iand, 1) := by decide +kernel
theorem dX1_carryOut_125 : decode cX1_carryOut 125 = .ok (.iload_n 1, 1) := by decide +kernel
theorem dX1_carryOut_126 : decode cX1_carryOut 126 = .ok (.iastore, 1) := by decide +kernel
theorem dX1_carryOut_127 : decode cX1_carryOut 127 = .ok (.goto 26, 3) := by decide +kernel
theorem dX1_carryOut_130 : decode cX1_carryOut 130 = .ok (.aload_n 0, 1) := by decide +kernel
theorem dX1_carryOut_131 : decode cX1_carryOut 131 = .ok (.getfield 34, 3) := by decide +kernel
theorem dX1_carryOut_134 : decode cX1_carryOut 134 = .ok (.iload 4, 2) := by decide +kernel
theorem dX1_carryOut_136 : decode cX1_carryOut 136 = .ok (.iconst 1, 1) := by decide +kernel
theorem dX1_carryOut_137 : decode cX1_carryOut 137 = .ok (.iand, 1) := by decide +kernel
theorem dX1_carryOut_138 : decode cX1_carryOut 138 = .ok (.iaload, 1) := by decide +kernel
theorem dX1_carryOut_139 : decode cX1_carryOut 139 = .ok (.iload_n 1, 1) := by decide +kernel
theorem dX1_carryOut_140 : decode cX1_carryOut 140 = .ok (.if_icmp .ne 13, 3) := by decide +kernel
theorem dX1_carryOut_143 : decode cX1_carryOut 143 = .ok (.aload_n 0, 1) := by decide +kernel
theorem dX1_carryOut_144 : decode cX1_carryOut 144 = .ok (.getfield 34, 3) := by decide +kernel
theorem dX1_carryOut_147 : decode cX1_carryOut 147 = .ok (.iload 4, 2) := by decide +kernel
theorem dX1_carryOut_149 : decode cX1_carryOut 149 = .ok (.iconst 1, 1) := by decide +kernel
theorem dX1_carryOut_150 : decode cX1_carryOut 150 = .ok (.iand, 1) := by decide +kernel
theorem dX1_carryOut_151 : decode cX1_carryOut 151 = .ok (.iconst (-1), 1) := by decide +kernel
theorem dX1_carryOut_152 : decode cX1_carryOut 152 = .ok (.iastore, 1) := by decide +kernel
theorem dX1_carryOut_153 : decode cX1_carryOut 153 = .ok (.aload_n 0, 1) := by decide +kernel
theorem dX1_carryOut_154 : decode cX1_carryOut 154 = .ok (.getfield 31, 3) := by decide +kernel
theorem dX1_carryOut_157 : decode cX1_carryOut 157 = .ok (.iload_n 1, 1) := by decide +kernel
theorem dX1_carryOut_158 : decode cX1_carryOut 158 = .ok (.dup2, 1) := by decide +kernel
theorem dX1_carryOut_159 : decode cX1_carryOut 159 = .ok (.iaload, 1) := by decide +kernel
theorem dX1_carryOut_160 : decode cX1_carryOut 160 = .ok (.iconst 1, 1) := by decide +kernel
theorem dX1_carryOut_161 : decode cX1_carryOut 161 = .ok (.iadd, 1) := by decide +kernel
theorem dX1_carryOut_162 : decode cX1_carryOut 162 = .ok (.iastore, 1) := by decide +kernel
theorem dX1_carryOut_163 : decode cX1_carryOut 163 = .ok (.return_, 1) := by decide +kernel
theorem dX1_extend_0 : decode cX1_extend 0 = .ok (.iconst 0, 1) := by decide +kernel
theorem dX1_extend_1 : decode cX1_extend 1 = .ok (.istore_n 1, 1) := by decide +kernel
theorem dX1_extend_2 : decode cX1_extend 2 = .ok (.iload_n 1, 1) := by decide +kernel
theorem dX1_extend_3 : decode cX1_extend 3 = .ok (.iconst 3, 1) := by decide +kernel
theorem dX1_extend_4 : decode cX1_extend 4 = .ok (.if_icmp .ge 75, 3) := by decide +kernel
theorem dX1_extend_7 : decode cX1_extend 7 = .ok (.aload_n 0, 1) := by decide +kernel
theorem dX1_extend_8 : decode cX1_extend 8 = .ok (.getfield 45, 3) := by decide +kernel
theorem dX1_extend_11 : decode cX1_extend 11 = .ok (.bipush 12, 2) := by decide +kernel
theorem dX1_extend_13 : decode cX1_extend 13 = .ok (.if_icmp .ge 66, 3) := by decide +kernel
theorem dX1_extend_16 : decode cX1_extend 16 = .ok (.aload_n 0, 1) := by decide +kernel
theorem dX1_extend_17 : decode cX1_extend 17 = .ok (.iload_n 1, 1) := by decide +kernel
theorem dX1_extend_18 : decode cX1_extend 18 = .ok (.invokevirtual 49, 3) := by decide +kernel
theorem dX1_extend_21 : decode cX1_extend 21 = .ok (.ifCond .eq 52, 3) := by decide +kernel
theorem dX1_extend_24 : decode cX1_extend 24 = .ok (.aload_n 0, 1) := by decide +kernel
theorem dX1_extend_25 : decode cX1_extend 25 = .ok (.getfield 22, 3) := by decide +kernel
theorem dX1_extend_28 : decode cX1_extend 28 = .ok (.aload_n 0, 1) := by decide +kernel
theorem dX1_extend_29 : decode cX1_extend 29 = .ok (.getfield 45, 3) := by decide +kernel
theorem dX1_extend_32 : decode cX1_extend 32 = .ok (.iload_n 1, 1) := by decide +kernel
theorem dX1_extend_33 : decode cX1_extend 33 = .ok (.iastore, 1) := by decide +kernel
theorem dX1_extend_34 : decode cX1_extend 34 = .ok (.aload_n 0, 1) := by decide +kernel
theorem dX1_extend_35 : decode cX1_extend 35 = .ok (.getfield 25, 3) := by decide +kernel
theorem dX1_extend_38 : decode cX1_extend 38 = .ok (.aload_n 0, 1) := by decide +kernel
theorem dX1_extend_39 : decode cX1_extend 39 = .ok (.getfield 45, 3) := by decide +kernel
theorem dX1_extend_42 : decode cX1_extend 42 = .ok (.iconst 4, 1) := by decide +kernel
theorem dX1_extend_43 : decode cX1_extend 43 = .ok (.iload_n 1, 1) := by decide +kernel
theorem dX1_extend_44 : decode cX1_extend 44 = .ok (.imul, 1) := by decide +kernel
theorem dX1_extend_45 : decode cX1_extend 45 = .ok (.aload_n 0, 1) := by decide +kernel
theorem dX1_extend_46 : decode cX1_extend 46 = .ok (.getfield 31, 3) := by decide +kernel
theorem dX1_extend_49 : decode cX1_extend 49 = .ok (.iload_n 1, 1) := by decide +kernel
theorem dX1_extend_50 : decode cX1_extend 50 = .ok (.iaload, 1) := by decide +kernel
theorem dX1_extend_51 : decode cX1_extend 51 = .ok (.iadd, 1) := by decide +kernel
theorem dX1_extend_52 : decode cX1_extend 52 = .ok (.iastore, 1) := by decide +kernel
theorem dX1_extend_53 : decode cX1_extend 53 = .ok (.aload_n 0, 1) := by decide +kernel
theorem dX1_extend_54 : decode cX1_extend 54 = .ok (.dup, 1) := by decide +kernel
theorem dX1_extend_55 : decode cX1_extend 55 = .ok (.getfield 45, 3) := by decide +kernel
theorem dX1_extend_58 : decode cX1_extend 58 = .ok (.iconst 1, 1) := by decide +kernel
theorem dX1_extend_59 : decode cX1_extend 59 = .ok (.iadd, 1) := by decide +kernel
theorem dX1_extend_60 : decode cX1_extend 60 = .ok (.putfield 45, 3) := by decide +kernel
theorem dX1_extend_63 : decode cX1_extend 63 = .ok (.aload_n 0, 1) := by decide +kernel
theorem dX1_extend_64 : decode cX1_extend 64 = .ok (.iload_n 1, 1) := by decide +kernel
theorem dX1_extend_65 : decode cX1_extend 65 = .ok (.invokevirtual 41, 3) := by decide +kernel
theorem dX1_extend_68 : decode cX1_extend 68 = .ok (.iconst 0, 1) := by decide +kernel
theorem dX1_extend_69 : decode cX1_extend 69 = .ok (.istore_n 1, 1) := by decide +kernel
theorem dX1_extend_70 : decode cX1_extend 70 = .ok (.goto (-68), 3) := by decide +kernel
theorem dX1_extend_73 : decode cX1_extend 73 = .ok (.iinc 1 1, 3) := by decide +kernel
theorem dX1_extend_76 : decode cX1_extend 76 = .ok (.goto (-74), 3) := by decide +kernel
theorem dX1_extend_79 : decode cX1_extend 79 = .ok (.return_, 1) := by decide +kernel
theorem dX1_can_0 : decode cX1_can 0 = .ok (.aload_n 0, 1) := by decide +kernel
theorem dX1_can_1 : decode cX1_can 1 = .ok (.getfield 31, 3) := by decide +kernel
theorem dX1_can_4 : decode cX1_can 4 = .ok (.iload_n 1, 1) := by decide +kernel
theorem dX1_can_5 : decode cX1_can 5 = .ok (.iaload, 1) := by decide +kernel
theorem dX1_can_6 : decode cX1_can 6 = .ok (.aload_n 0, 1) := by decide +kernel
theorem dX1_can_7 : decode cX1_can 7 = .ok (.getfield 7, 3) := by decide +kernel
theorem dX1_can_10 : decode cX1_can 10 = .ok (.iload_n 1, 1) := by decide +kernel
theorem dX1_can_11 : decode cX1_can 11 = .ok (.iaload, 1) := by decide +kernel
theorem dX1_can_12 : decode cX1_can 12 = .ok (.if_icmp .lt 5, 3) := by decide +kernel
theorem dX1_can_15 : decode cX1_can 15 = .ok (.iconst 0, 1) := by decide +kernel
theorem dX1_can_16 : decode cX1_can 16 = .ok (.ireturn, 1) := by decide +kernel
theorem dX1_can_17 : decode cX1_can 17 = .ok (.iconst 4, 1) := by decide +kernel
theorem dX1_can_18 : decode cX1_can 18 = .ok (.iload_n 1, 1) := by decide +kernel
theorem dX1_can_19 : decode cX1_can 19 = .ok (.imul, 1) := by decide +kernel
theorem dX1_can_20 : decode cX1_can 20 = .ok (.aload_n 0, 1) := by decide +kernel
theorem dX1_can_21 : decode cX1_can 21 = .ok (.getfield 31, 3) := by decide +kernel
theorem dX1_can_24 : decode cX1_can 24 = .ok (.iload_n 1, 1) := by decide +kernel
theorem dX1_can_25 : decode cX1_can 25 = .ok (.iaload, 1) := by decide +kernel
theorem dX1_can_26 : decode cX1_can 26 = .ok (.iadd, 1) := by decide +kernel
theorem dX1_can_27 : decode cX1_can 27 = .ok (.istore_n 2, 1) := by decide +kernel
theorem dX1_can_28 : decode cX1_can 28 = .ok (.aload_n 0, 1) := by decide +kernel
theorem dX1_can_29 : decode cX1_can 29 = .ok (.getfield 13, 3) := by decide +kernel
theorem dX1_can_32 : decode cX1_can 32 = .ok (.iload_n 2, 1) := by decide +kernel
theorem dX1_can_33 : decode cX1_can 33 = .ok (.iaload, 1) := by decide +kernel
theorem dX1_can_34 : decode cX1_can 34 = .ok (.iconst 4, 1) := by decide +kernel
theorem dX1_can_35 : decode cX1_can 35 = .ok (.if_icmp .ne 19, 3) := by decide +kernel
theorem dX1_can_38 : decode cX1_can 38 = .ok (.aload_n 0, 1) := by decide +kernel
theorem dX1_can_39 : decode cX1_can 39 = .ok (.getfield 34, 3) := by decide +kernel
theorem dX1_can_42 : decode cX1_can 42 = .ok (.aload_n 0, 1) := by decide +kernel
theorem dX1_can_43 : decode cX1_can 43 = .ok (.getfield 16, 3) := by decide +kernel
theorem dX1_can_46 : decode cX1_can 46 = .ok (.iload_n 2, 1) := by decide +kernel
theorem dX1_can_47 : decode cX1_can 47 = .ok (.iaload, 1) := by decide +kernel
theorem dX1_can_48 : decode cX1_can 48 = .ok (.iconst 1, 1) := by decide +kernel
theorem dX1_can_49 : decode cX1_can 49 = .ok (.iand, 1) := by decide +kernel
theorem dX1_can_50 : decode cX1_can 50 = .ok (.iaload, 1) := by decide +kernel
theorem dX1_can_51 : decode cX1_can 51 = .ok (.ifCond .ge 7, 3) := by decide +kernel
theorem dX1_can_54 : decode cX1_can 54 = .ok (.iconst 1, 1) := by decide +kernel
theorem dX1_can_55 : decode cX1_can 55 = .ok (.goto 4, 3) := by decide +kernel
theorem dX1_can_58 : decode cX1_can 58 = .ok (.iconst 0, 1) := by decide +kernel
theorem dX1_can_59 : decode cX1_can 59 = .ok (.ireturn, 1) := by decide +kernel
theorem dX1_next_0 : decode cX1_next 0 = .ok (.aload_n 0, 1) := by decide +kernel
theorem dX1_next_1 : decode cX1_next 1 = .ok (.getfield 45, 3) := by decide +kernel
theorem dX1_next_4 : decode cX1_next 4 = .ok (.iconst 1, 1) := by decide +kernel
theorem dX1_next_5 : decode cX1_next 5 = .ok (.isub, 1) := by decide +kernel
theorem dX1_next_6 : decode cX1_next 6 = .ok (.istore_n 1, 1) := by decide +kernel
theorem dX1_next_7 : decode cX1_next 7 = .ok (.iload_n 1, 1) := by decide +kernel
theorem dX1_next_8 : decode cX1_next 8 = .ok (.ifCond .lt 70, 3) := by decide +kernel
theorem dX1_next_11 : decode cX1_next 11 = .ok (.aload_n 0, 1) := by decide +kernel
theorem dX1_next_12 : decode cX1_next 12 = .ok (.iload_n 1, 1) := by decide +kernel
theorem dX1_next_13 : decode cX1_next 13 = .ok (.invokevirtual 52, 3) := by decide +kernel
theorem dX1_next_16 : decode cX1_next 16 = .ok (.aload_n 0, 1) := by decide +kernel
theorem dX1_next_17 : decode cX1_next 17 = .ok (.getfield 22, 3) := by decide +kernel
theorem dX1_next_20 : decode cX1_next 20 = .ok (.iload_n 1, 1) := by decide +kernel
theorem dX1_next_21 : decode cX1_next 21 = .ok (.iaload, 1) := by decide +kernel
theorem dX1_next_22 : decode cX1_next 22 = .ok (.iconst 1, 1) := by decide +kernel
theorem dX1_next_23 : decode cX1_next 23 = .ok (.iadd, 1) := by decide +kernel
theorem dX1_next_24 : decode cX1_next 24 = .ok (.istore_n 2, 1) := by decide +kernel
theorem dX1_next_25 : decode cX1_next 25 = .ok (.iload_n 2, 1) := by decide +kernel
theorem dX1_next_26 : decode cX1_next 26 = .ok (.iconst 3, 1) := by decide +kernel
theorem dX1_next_27 : decode cX1_next 27 = .ok (.if_icmp .ge 45, 3) := by decide +kernel
theorem dX1_next_30 : decode cX1_next 30 = .ok (.aload_n 0, 1) := by decide +kernel
theorem dX1_next_31 : decode cX1_next 31 = .ok (.iload_n 2, 1) := by decide +kernel
theorem dX1_next_32 : decode cX1_next 32 = .ok (.invokevirtual 49, 3) := by decide +kernel
theorem dX1_next_35 : decode cX1_next 35 = .ok (.ifCond .eq 31, 3) := by decide +kernel
theorem dX1_next_38 : decode cX1_next 38 = .ok (.aload_n 0, 1) := by decide +kernel
theorem dX1_next_39 : decode cX1_next 39 = .ok (.getfield 22, 3) := by decide +kernel
theorem dX1_next_42 : decode cX1_next 42 = .ok (.iload_n 1, 1) := by decide +kernel
theorem dX1_next_43 : decode cX1_next 43 = .ok (.iload_n 2, 1) := by decide +kernel
theorem dX1_next_44 : decode cX1_next 44 = .ok (.iastore, 1) := by decide +kernel
theorem dX1_next_45 : decode cX1_next 45 = .ok (.aload_n 0, 1) := by decide +kernel
theorem dX1_next_46 : decode cX1_next 46 = .ok (.iload_n 1, 1) := by decide +kernel
theorem dX1_next_47 : decode cX1_next 47 = .ok (.iconst 1, 1) := by decide +kernel
theorem dX1_next_48 : decode cX1_next 48 = .ok (.iadd, 1) := by decide +kernel
theorem dX1_next_49 : decode cX1_next 49 = .ok (.putfield 45, 3) := by decide +kernel
theorem dX1_next_52 : decode cX1_next 52 = .ok (.aload_n 0, 1) := by decide +kernel
theorem dX1_next_53 : decode cX1_next 53 = .ok (.aload_n 0, 1) := by decide +kernel
theorem dX1_next_54 : decode cX1_next 54 = .ok (.getfield 45, 3) := by decide +kernel
theorem dX1_next_57 : decode cX1_next 57 = .ok (.invokevirtual 52, 3) := by decide +kernel
theorem dX1_next_60 : decode cX1_next 60 = .ok (.aload_n 0, 1) := by decide +kernel
theorem dX1_next_61 : decode cX1_next 61 = .ok (.invokevirtual 55, 3) := by decide +kernel
theorem dX1_next_64 : decode cX1_next 64 = .ok (.iconst 1, 1) := by decide +kernel
theorem dX1_next_65 : decode cX1_next 65 = .ok (.ireturn, 1) := by decide +kernel
theorem dX1_next_66 : decode cX1_next 66 = .ok (.iinc 2 1, 3) := by decide +kernel
theorem dX1_next_69 : decode cX1_next 69 = .ok (.goto (-44), 3) := by decide +kernel
theorem dX1_next_72 : decode cX1_next 72 = .ok (.iinc 1 (-1), 3) := by decide +kernel
theorem dX1_next_75 : decode cX1_next 75 = .ok (.goto (-68), 3) := by decide +kernel
theorem dX1_next_78 : decode cX1_next 78 = .ok (.iconst 0, 1) := by decide +kernel
theorem dX1_next_79 : decode cX1_next 79 = .ok (.ireturn, 1) := by decide +kernel
theorem dX1_classes_0 : decode cX1_classes 0 = .ok (.iconst 0, 1) := by decide +kernel
theorem dX1_classes_1 : decode cX1_classes 1 = .ok (.istore_n 1, 1) := by decide +kernel
theorem dX1_classes_2 : decode cX1_classes 2 = .ok (.aload_n 0, 1) := by decide +kernel
theorem dX1_classes_3 : decode cX1_classes 3 = .ok (.invokevirtual 62, 3) := by decide +kernel
theorem dX1_classes_6 : decode cX1_classes 6 = .ok (.iconst 1, 1) := by decide +kernel
theorem dX1_classes_7 : decode cX1_classes 7 = .ok (.istore_n 2, 1) := by decide +kernel
theorem dX1_classes_8 : decode cX1_classes 8 = .ok (.iconst 0, 1) := by decide +kernel
theorem dX1_classes_9 : decode cX1_classes 9 = .ok (.istore_n 3, 1) := by decide +kernel
theorem dX1_classes_10 : decode cX1_classes 10 = .ok (.iload_n 3, 1) := by decide +kernel
theorem dX1_classes_11 : decode cX1_classes 11 = .ok (.ldc 65, 2) := by decide +kernel
theorem dX1_classes_13 : decode cX1_classes 13 = .ok (.if_icmp .ge 33, 3) := by decide +kernel
theorem dX1_classes_16 : decode cX1_classes 16 = .ok (.iload_n 2, 1) := by decide +kernel
theorem dX1_classes_17 : decode cX1_classes 17 = .ok (.ifCond .eq 29, 3) := by decide +kernel
theorem dX1_classes_20 : decode cX1_classes 20 = .ok (.aload_n 0, 1) := by decide +kernel
theorem dX1_classes_21 : decode cX1_classes 21 = .ok (.invokevirtual 70, 3) := by decide +kernel
theorem dX1_classes_24 : decode cX1_classes 24 = .ok (.ifCond .eq 9, 3) := by decide +kernel
theorem dX1_classes_27 : decode cX1_classes 27 = .ok (.iload_n 1, 1) := by decide +kernel
theorem dX1_classes_28 : decode cX1_classes 28 = .ok (.iconst 1, 1) := by decide +kernel
theorem dX1_classes_29 : decode cX1_classes 29 = .ok (.iadd, 1) := by decide +kernel
theorem dX1_classes_30 : decode cX1_classes 30 = .ok (.goto 4, 3) := by decide +kernel
theorem dX1_classes_33 : decode cX1_classes 33 = .ok (.iload_n 1, 1) := by decide +kernel
theorem dX1_classes_34 : decode cX1_classes 34 = .ok (.istore_n 1, 1) := by decide +kernel
theorem dX1_classes_35 : decode cX1_classes 35 = .ok (.aload_n 0, 1) := by decide +kernel
theorem dX1_classes_36 : decode cX1_classes 36 = .ok (.invokevirtual 66, 3) := by decide +kernel
theorem dX1_classes_39 : decode cX1_classes 39 = .ok (.istore_n 2, 1) := by decide +kernel
theorem dX1_classes_40 : decode cX1_classes 40 = .ok (.iinc 3 1, 3) := by decide +kernel
theorem dX1_classes_43 : decode cX1_classes 43 = .ok (.goto (-33), 3) := by decide +kernel
theorem dX1_classes_46 : decode cX1_classes 46 = .ok (.iload_n 1, 1) := by decide +kernel
theorem dX1_classes_47 : decode cX1_classes 47 = .ok (.ireturn, 1) := by decide +kernel
theorem dX1_settled_0 : decode cX1_settled 0 = .ok (.iconst 1, 1) := by decide +kernel
theorem dX1_settled_1 : decode cX1_settled 1 = .ok (.istore_n 1, 1) := by decide +kernel
theorem dX1_settled_2 : decode cX1_settled 2 = .ok (.iconst 0, 1) := by decide +kernel
theorem dX1_settled_3 : decode cX1_settled 3 = .ok (.istore_n 2, 1) := by decide +kernel
theorem dX1_settled_4 : decode cX1_settled 4 = .ok (.iload_n 2, 1) := by decide +kernel
theorem dX1_settled_5 : decode cX1_settled 5 = .ok (.aload_n 0, 1) := by decide +kernel
theorem dX1_settled_6 : decode cX1_settled 6 = .ok (.getfield 45, 3) := by decide +kernel
theorem dX1_settled_9 : decode cX1_settled 9 = .ok (.if_icmp .ge 103, 3) := by decide +kernel
theorem dX1_settled_12 : decode cX1_settled 12 = .ok (.iconst 1, 1) := by decide +kernel
theorem dX1_settled_13 : decode cX1_settled 13 = .ok (.istore_n 3, 1) := by decide +kernel
theorem dX1_settled_14 : decode cX1_settled 14 = .ok (.iload_n 2, 1) := by decide +kernel
theorem dX1_settled_15 : decode cX1_settled 15 = .ok (.iconst 1, 1) := by decide +kernel
theorem dX1_settled_16 : decode cX1_settled 16 = .ok (.isub, 1) := by decide +kernel
theorem dX1_settled_17 : decode cX1_settled 17 = .ok (.istore 4, 2) := by decide +kernel
theorem dX1_settled_19 : decode cX1_settled 19 = .ok (.iload 4, 2) := by decide +kernel
theorem dX1_settled_21 : decode cX1_settled 21 = .ok (.ifCond .lt 85, 3) := by decide +kernel
theorem dX1_settled_24 : decode cX1_settled 24 = .ok (.iload_n 3, 1) := by decide +kernel
theorem dX1_settled_25 : decode cX1_settled 25 = .ok (.ifCond .eq 81, 3) := by decide +kernel
theorem dX1_settled_28 : decode cX1_settled 28 = .ok (.aload_n 0, 1) := by decide +kernel
theorem dX1_settled_29 : decode cX1_settled 29 = .ok (.getfield 22, 3) := by decide +kernel
theorem dX1_settled_32 : decode cX1_settled 32 = .ok (.iload 4, 2) := by decide +kernel
theorem dX1_settled_34 : decode cX1_settled 34 = .ok (.iaload, 1) := by decide +kernel
theorem dX1_settled_35 : decode cX1_settled 35 = .ok (.aload_n 0, 1) := by decide +kernel
theorem dX1_settled_36 : decode cX1_settled 36 = .ok (.getfield 22, 3) := by decide +kernel
theorem dX1_settled_39 : decode cX1_settled 39 = .ok (.iload_n 2, 1) := by decide +kernel
theorem dX1_settled_40 : decode cX1_settled 40 = .ok (.iaload, 1) := by decide +kernel
theorem dX1_settled_41 : decode cX1_settled 41 = .ok (.if_icmp .eq 27, 3) := by decide +kernel
theorem dX1_settled_44 : decode cX1_settled 44 = .ok (.aload_n 0, 1) := by decide +kernel
theorem dX1_settled_45 : decode cX1_settled 45 = .ok (.aload_n 0, 1) := by decide +kernel
theorem dX1_settled_46 : decode cX1_settled 46 = .ok (.getfield 25, 3) := by decide +kernel
theorem dX1_settled_49 : decode cX1_settled 49 = .ok (.iload 4, 2) := by decide +kernel
theorem dX1_settled_51 : decode cX1_settled 51 = .ok (.iaload, 1) := by decide +kernel
theorem dX1_settled_52 : decode cX1_settled 52 = .ok (.aload_n 0, 1) := by decide +kernel
theorem dX1_settled_53 : decode cX1_settled 53 = .ok (.getfield 25, 3) := by decide +kernel
theorem dX1_settled_56 : decode cX1_settled 56 = .ok (.iload_n 2, 1) := by decide +kernel
theorem dX1_settled_57 : decode cX1_settled 57 = .ok (.iaload, 1) := by decide +kernel
theorem dX1_settled_58 : decode cX1_settled 58 = .ok (.invokevirtual 58, 3) := by decide +kernel
theorem dX1_settled_61 : decode cX1_settled 61 = .ok (.ifCond .ne 7, 3) := by decide +kernel
theorem dX1_settled_64 : decode cX1_settled 64 = .ok (.iconst 1, 1) := by decide +kernel
theorem dX1_settled_65 : decode cX1_settled 65 = .ok (.goto 4, 3) := by decide +kernel
theorem dX1_settled_68 : decode cX1_settled 68 = .ok (.iconst 0, 1) := by decide +kernel
theorem dX1_settled_69 : decode cX1_settled 69 = .ok (.istore_n 3, 1) := by decide +kernel
theorem dX1_settled_70 : decode cX1_settled 70 = .ok (.iload_n 1, 1) := by decide +kernel
theorem dX1_settled_71 : decode cX1_settled 71 = .ok (.ifCond .eq 27, 3) := by decide +kernel
theorem dX1_settled_74 : decode cX1_settled 74 = .ok (.iload_n 3, 1) := by decide +kernel
theorem dX1_settled_75 : decode cX1_settled 75 = .ok (.ifCond .eq 19, 3) := by decide +kernel
theorem dX1_settled_78 : decode cX1_settled 78 = .ok (.aload_n 0, 1) := by decide +kernel
theorem dX1_settled_79 : decode cX1_settled 79 = .ok (.getfield 22, 3) := by decide +kernel
theorem dX1_settled_82 : decode cX1_settled 82 = .ok (.iload_n 2, 1) := by decide +kernel
theorem dX1_settled_83 : decode cX1_settled 83 = .ok (.iaload, 1) := by decide +kernel
theorem dX1_settled_84 : decode cX1_settled 84 = .ok (.aload_n 0, 1) := by decide +kernel
theorem dX1_settled_85 : decode cX1_settled 85 = .ok (.getfield 22, 3) := by decide +kernel
theorem dX1_settled_88 : decode cX1_settled 88 = .ok (.iload 4, 2) := by decide +kernel
theorem dX1_settled_90 : decode cX1_settled 90 = .ok (.iaload, 1) := by decide +kernel
theorem dX1_settled_91 : decode cX1_settled 91 = .ok (.if_icmp .lt 7, 3) := by decide +kernel
theorem dX1_settled_94 : decode cX1_settled 94 = .ok (.iconst 1, 1) := by decide +kernel
end
section
set_option maxRecDepth 100000
theorem dX1_settled_95 : decode cX1_settled 95 = .ok (.goto 4, 3) := by decide +kernel
theorem dX1_settled_98 : decode cX1_settled 98 = .ok (.iconst 0, 1) := by decide +kernel
theorem dX1_settled_99 : decode cX1_settled 99 = .ok (.istore_n 1, 1) := by decide +kernel
theorem dX1_settled_100 : decode cX1_settled 100 = .ok (.iinc 4 (-1), 3) := by decide +kernel
theorem dX1_settled_103 : decode cX1_settled 103 = .ok (.goto (-84), 3) := by decide +kernel
theorem dX1_settled_106 : decode cX1_settled 106 = .ok (.iinc 2 1, 3) := by decide +kernel
theorem dX1_settled_109 : decode cX1_settled 109 = .ok (.goto (-105), 3) := by decide +kernel
theorem dX1_settled_112 : decode cX1_settled 112 = .ok (.iload_n 1, 1) := by decide +kernel
theorem dX1_settled_113 : decode cX1_settled 113 = .ok (.ireturn, 1) := by decide +kernel
theorem dX1_touch_0 : decode cX1_touch 0 = .ok (.aload_n 0, 1) := by decide +kernel
theorem dX1_touch_1 : decode cX1_touch 1 = .ok (.getfield 13, 3) := by decide +kernel
theorem dX1_touch_4 : decode cX1_touch 4 = .ok (.iload_n 1, 1) := by decide +kernel
theorem dX1_touch_5 : decode cX1_touch 5 = .ok (.iaload, 1) := by decide +kernel
theorem dX1_touch_6 : decode cX1_touch 6 = .ok (.istore_n 3, 1) := by decide +kernel
theorem dX1_touch_7 : decode cX1_touch 7 = .ok (.aload_n 0, 1) := by decide +kernel
theorem dX1_touch_8 : decode cX1_touch 8 = .ok (.getfield 13, 3) := by decide +kernel
theorem dX1_touch_11 : decode cX1_touch 11 = .ok (.iload_n 2, 1) := by decide +kernel
theorem dX1_touch_12 : decode cX1_touch 12 = .ok (.iaload, 1) := by decide +kernel
theorem dX1_touch_13 : decode cX1_touch 13 = .ok (.istore 4, 2) := by decide +kernel
theorem dX1_touch_15 : decode cX1_touch 15 = .ok (.iload_n 3, 1) := by decide +kernel
theorem dX1_touch_16 : decode cX1_touch 16 = .ok (.iconst 2, 1) := by decide +kernel
theorem dX1_touch_17 : decode cX1_touch 17 = .ok (.if_icmp .gt 22, 3) := by decide +kernel
theorem dX1_touch_20 : decode cX1_touch 20 = .ok (.iload 4, 2) := by decide +kernel
theorem dX1_touch_22 : decode cX1_touch 22 = .ok (.iconst 2, 1) := by decide +kernel
theorem dX1_touch_23 : decode cX1_touch 23 = .ok (.if_icmp .gt 16, 3) := by decide +kernel
theorem dX1_touch_26 : decode cX1_touch 26 = .ok (.iload_n 3, 1) := by decide +kernel
theorem dX1_touch_27 : decode cX1_touch 27 = .ok (.ifCond .ne 8, 3) := by decide +kernel
theorem dX1_touch_30 : decode cX1_touch 30 = .ok (.iload 4, 2) := by decide +kernel
theorem dX1_touch_32 : decode cX1_touch 32 = .ok (.ifCond .eq 7, 3) := by decide +kernel
theorem dX1_touch_35 : decode cX1_touch 35 = .ok (.iconst 1, 1) := by decide +kernel
theorem dX1_touch_36 : decode cX1_touch 36 = .ok (.goto 4, 3) := by decide +kernel
theorem dX1_touch_39 : decode cX1_touch 39 = .ok (.iconst 0, 1) := by decide +kernel
theorem dX1_touch_40 : decode cX1_touch 40 = .ok (.istore 5, 2) := by decide +kernel
theorem dX1_touch_42 : decode cX1_touch 42 = .ok (.aload_n 0, 1) := by decide +kernel
theorem dX1_touch_43 : decode cX1_touch 43 = .ok (.getfield 16, 3) := by decide +kernel
theorem dX1_touch_46 : decode cX1_touch 46 = .ok (.iload_n 1, 1) := by decide +kernel
theorem dX1_touch_47 : decode cX1_touch 47 = .ok (.iaload, 1) := by decide +kernel
theorem dX1_touch_48 : decode cX1_touch 48 = .ok (.aload_n 0, 1) := by decide +kernel
theorem dX1_touch_49 : decode cX1_touch 49 = .ok (.getfield 16, 3) := by decide +kernel
theorem dX1_touch_52 : decode cX1_touch 52 = .ok (.iload_n 2, 1) := by decide +kernel
theorem dX1_touch_53 : decode cX1_touch 53 = .ok (.iaload, 1) := by decide +kernel
theorem dX1_touch_54 : decode cX1_touch 54 = .ok (.if_icmp .ne 23, 3) := by decide +kernel
theorem dX1_touch_57 : decode cX1_touch 57 = .ok (.iload 5, 2) := by decide +kernel
theorem dX1_touch_59 : decode cX1_touch 59 = .ok (.ifCond .ne 14, 3) := by decide +kernel
theorem dX1_touch_62 : decode cX1_touch 62 = .ok (.iload_n 3, 1) := by decide +kernel
theorem dX1_touch_63 : decode cX1_touch 63 = .ok (.iconst 4, 1) := by decide +kernel
theorem dX1_touch_64 : decode cX1_touch 64 = .ok (.if_icmp .lt 13, 3) := by decide +kernel
theorem dX1_touch_67 : decode cX1_touch 67 = .ok (.iload 4, 2) := by decide +kernel
theorem dX1_touch_69 : decode cX1_touch 69 = .ok (.iconst 4, 1) := by decide +kernel
theorem dX1_touch_70 : decode cX1_touch 70 = .ok (.if_icmp .lt 7, 3) := by decide +kernel
theorem dX1_touch_73 : decode cX1_touch 73 = .ok (.iconst 1, 1) := by decide +kernel
theorem dX1_touch_74 : decode cX1_touch 74 = .ok (.goto 4, 3) := by decide +kernel
theorem dX1_touch_77 : decode cX1_touch 77 = .ok (.iconst 0, 1) := by decide +kernel
theorem dX1_touch_78 : decode cX1_touch 78 = .ok (.ireturn, 1) := by decide +kernel
theorem dX1_canStick_0 : decode cX1_canStick 0 = .ok (.iconst 0, 1) := by decide +kernel
theorem dX1_canStick_1 : decode cX1_canStick 1 = .ok (.istore_n 1, 1) := by decide +kernel
theorem dX1_canStick_2 : decode cX1_canStick 2 = .ok (.aload_n 0, 1) := by decide +kernel
theorem dX1_canStick_3 : decode cX1_canStick 3 = .ok (.invokevirtual 62, 3) := by decide +kernel
theorem dX1_canStick_6 : decode cX1_canStick 6 = .ok (.iconst 1, 1) := by decide +kernel
theorem dX1_canStick_7 : decode cX1_canStick 7 = .ok (.istore_n 2, 1) := by decide +kernel
theorem dX1_canStick_8 : decode cX1_canStick 8 = .ok (.iconst 0, 1) := by decide +kernel
theorem dX1_canStick_9 : decode cX1_canStick 9 = .ok (.istore_n 3, 1) := by decide +kernel
theorem dX1_canStick_10 : decode cX1_canStick 10 = .ok (.iload_n 3, 1) := by decide +kernel
theorem dX1_canStick_11 : decode cX1_canStick 11 = .ok (.ldc 65, 2) := by decide +kernel
theorem dX1_canStick_13 : decode cX1_canStick 13 = .ok (.if_icmp .ge 81, 3) := by decide +kernel
theorem dX1_canStick_16 : decode cX1_canStick 16 = .ok (.iload_n 2, 1) := by decide +kernel
theorem dX1_canStick_17 : decode cX1_canStick 17 = .ok (.ifCond .eq 77, 3) := by decide +kernel
theorem dX1_canStick_20 : decode cX1_canStick 20 = .ok (.aload_n 0, 1) := by decide +kernel
theorem dX1_canStick_21 : decode cX1_canStick 21 = .ok (.aload_n 0, 1) := by decide +kernel
theorem dX1_canStick_22 : decode cX1_canStick 22 = .ok (.getfield 45, 3) := by decide +kernel
theorem dX1_canStick_25 : decode cX1_canStick 25 = .ok (.invokevirtual 52, 3) := by decide +kernel
theorem dX1_canStick_28 : decode cX1_canStick 28 = .ok (.iload_n 1, 1) := by decide +kernel
theorem dX1_canStick_29 : decode cX1_canStick 29 = .ok (.ifCond .ne 48, 3) := by decide +kernel
theorem dX1_canStick_32 : decode cX1_canStick 32 = .ok (.aload_n 0, 1) := by decide +kernel
theorem dX1_canStick_33 : decode cX1_canStick 33 = .ok (.getfield 31, 3) := by decide +kernel
theorem dX1_canStick_36 : decode cX1_canStick 36 = .ok (.iconst 0, 1) := by decide +kernel
theorem dX1_canStick_37 : decode cX1_canStick 37 = .ok (.iaload, 1) := by decide +kernel
theorem dX1_canStick_38 : decode cX1_canStick 38 = .ok (.aload_n 0, 1) := by decide +kernel
theorem dX1_canStick_39 : decode cX1_canStick 39 = .ok (.getfield 7, 3) := by decide +kernel
theorem dX1_canStick_42 : decode cX1_canStick 42 = .ok (.iconst 0, 1) := by decide +kernel
theorem dX1_canStick_43 : decode cX1_canStick 43 = .ok (.iaload, 1) := by decide +kernel
theorem dX1_canStick_44 : decode cX1_canStick 44 = .ok (.if_icmp .lt 33, 3) := by decide +kernel
theorem dX1_canStick_47 : decode cX1_canStick 47 = .ok (.aload_n 0, 1) := by decide +kernel
theorem dX1_canStick_48 : decode cX1_canStick 48 = .ok (.getfield 31, 3) := by decide +kernel
theorem dX1_canStick_51 : decode cX1_canStick 51 = .ok (.iconst 1, 1) := by decide +kernel
theorem dX1_canStick_52 : decode cX1_canStick 52 = .ok (.iaload, 1) := by decide +kernel
theorem dX1_canStick_53 : decode cX1_canStick 53 = .ok (.aload_n 0, 1) := by decide +kernel
theorem dX1_canStick_54 : decode cX1_canStick 54 = .ok (.getfield 7, 3) := by decide +kernel
theorem dX1_canStick_57 : decode cX1_canStick 57 = .ok (.iconst 1, 1) := by decide +kernel
theorem dX1_canStick_58 : decode cX1_canStick 58 = .ok (.iaload, 1) := by decide +kernel
theorem dX1_canStick_59 : decode cX1_canStick 59 = .ok (.if_icmp .lt 18, 3) := by decide +kernel
theorem dX1_canStick_62 : decode cX1_canStick 62 = .ok (.aload_n 0, 1) := by decide +kernel
theorem dX1_canStick_63 : decode cX1_canStick 63 = .ok (.getfield 31, 3) := by decide +kernel
theorem dX1_canStick_66 : decode cX1_canStick 66 = .ok (.iconst 2, 1) := by decide +kernel
theorem dX1_canStick_67 : decode cX1_canStick 67 = .ok (.iaload, 1) := by decide +kernel
theorem dX1_canStick_68 : decode cX1_canStick 68 = .ok (.aload_n 0, 1) := by decide +kernel
theorem dX1_canStick_69 : decode cX1_canStick 69 = .ok (.getfield 7, 3) := by decide +kernel
theorem dX1_canStick_72 : decode cX1_canStick 72 = .ok (.iconst 2, 1) := by decide +kernel
theorem dX1_canStick_73 : decode cX1_canStick 73 = .ok (.iaload, 1) := by decide +kernel
theorem dX1_canStick_74 : decode cX1_canStick 74 = .ok (.if_icmp .ge 7, 3) := by decide +kernel
theorem dX1_canStick_77 : decode cX1_canStick 77 = .ok (.iconst 1, 1) := by decide +kernel
theorem dX1_canStick_78 : decode cX1_canStick 78 = .ok (.goto 4, 3) := by decide +kernel
theorem dX1_canStick_81 : decode cX1_canStick 81 = .ok (.iconst 0, 1) := by decide +kernel
theorem dX1_canStick_82 : decode cX1_canStick 82 = .ok (.istore_n 1, 1) := by decide +kernel
theorem dX1_canStick_83 : decode cX1_canStick 83 = .ok (.aload_n 0, 1) := by decide +kernel
theorem dX1_canStick_84 : decode cX1_canStick 84 = .ok (.invokevirtual 66, 3) := by decide +kernel
theorem dX1_canStick_87 : decode cX1_canStick 87 = .ok (.istore_n 2, 1) := by decide +kernel
theorem dX1_canStick_88 : decode cX1_canStick 88 = .ok (.iinc 3 1, 3) := by decide +kernel
theorem dX1_canStick_91 : decode cX1_canStick 91 = .ok (.goto (-81), 3) := by decide +kernel
theorem dX1_canStick_94 : decode cX1_canStick 94 = .ok (.iload_n 1, 1) := by decide +kernel
theorem dX1_canStick_95 : decode cX1_canStick 95 = .ok (.ireturn, 1) := by decide +kernel
theorem dX1_canEnd_0 : decode cX1_canEnd 0 = .ok (.aload_n 0, 1) := by decide +kernel
theorem dX1_canEnd_1 : decode cX1_canEnd 1 = .ok (.iload_n 1, 1) := by decide +kernel
theorem dX1_canEnd_2 : decode cX1_canEnd 2 = .ok (.iload_n 2, 1) := by decide +kernel
theorem dX1_canEnd_3 : decode cX1_canEnd 3 = .ok (.iload_n 1, 1) := by decide +kernel
theorem dX1_canEnd_4 : decode cX1_canEnd 4 = .ok (.iload_n 2, 1) := by decide +kernel
theorem dX1_canEnd_5 : decode cX1_canEnd 5 = .ok (.invokevirtual 73, 3) := by decide +kernel
theorem dX1_canEnd_8 : decode cX1_canEnd 8 = .ok (.ireturn, 1) := by decide +kernel
theorem dX1_canEndBoth_0 : decode cX1_canEndBoth 0 = .ok (.iload_n 1, 1) := by decide +kernel
theorem dX1_canEndBoth_1 : decode cX1_canEndBoth 1 = .ok (.ifCond .lt 17, 3) := by decide +kernel
theorem dX1_canEndBoth_4 : decode cX1_canEndBoth 4 = .ok (.iload_n 1, 1) := by decide +kernel
theorem dX1_canEndBoth_5 : decode cX1_canEndBoth 5 = .ok (.iconst 2, 1) := by decide +kernel
theorem dX1_canEndBoth_6 : decode cX1_canEndBoth 6 = .ok (.if_icmp .gt 12, 3) := by decide +kernel
theorem dX1_canEndBoth_9 : decode cX1_canEndBoth 9 = .ok (.iload_n 3, 1) := by decide +kernel
theorem dX1_canEndBoth_10 : decode cX1_canEndBoth 10 = .ok (.ifCond .lt 8, 3) := by decide +kernel
theorem dX1_canEndBoth_13 : decode cX1_canEndBoth 13 = .ok (.iload_n 3, 1) := by decide +kernel
theorem dX1_canEndBoth_14 : decode cX1_canEndBoth 14 = .ok (.iconst 2, 1) := by decide +kernel
theorem dX1_canEndBoth_15 : decode cX1_canEndBoth 15 = .ok (.if_icmp .le 5, 3) := by decide +kernel
theorem dX1_canEndBoth_18 : decode cX1_canEndBoth 18 = .ok (.iconst 0, 1) := by decide +kernel
theorem dX1_canEndBoth_19 : decode cX1_canEndBoth 19 = .ok (.ireturn, 1) := by decide +kernel
theorem dX1_canEndBoth_20 : decode cX1_canEndBoth 20 = .ok (.iconst 0, 1) := by decide +kernel
theorem dX1_canEndBoth_21 : decode cX1_canEndBoth 21 = .ok (.istore 5, 2) := by decide +kernel
theorem dX1_canEndBoth_23 : decode cX1_canEndBoth 23 = .ok (.aload_n 0, 1) := by decide +kernel
theorem dX1_canEndBoth_24 : decode cX1_canEndBoth 24 = .ok (.invokevirtual 62, 3) := by decide +kernel
theorem dX1_canEndBoth_27 : decode cX1_canEndBoth 27 = .ok (.iconst 1, 1) := by decide +kernel
theorem dX1_canEndBoth_28 : decode cX1_canEndBoth 28 = .ok (.istore 6, 2) := by decide +kernel
theorem dX1_canEndBoth_30 : decode cX1_canEndBoth 30 = .ok (.iconst 0, 1) := by decide +kernel
theorem dX1_canEndBoth_31 : decode cX1_canEndBoth 31 = .ok (.istore 7, 2) := by decide +kernel
theorem dX1_canEndBoth_33 : decode cX1_canEndBoth 33 = .ok (.iload 7, 2) := by decide +kernel
theorem dX1_canEndBoth_35 : decode cX1_canEndBoth 35 = .ok (.ldc 65, 2) := by decide +kernel
theorem dX1_canEndBoth_37 : decode cX1_canEndBoth 37 = .ok (.if_icmp .ge 61, 3) := by decide +kernel
theorem dX1_canEndBoth_40 : decode cX1_canEndBoth 40 = .ok (.iload 6, 2) := by decide +kernel
theorem dX1_canEndBoth_42 : decode cX1_canEndBoth 42 = .ok (.ifCond .eq 56, 3) := by decide +kernel
theorem dX1_canEndBoth_45 : decode cX1_canEndBoth 45 = .ok (.aload_n 0, 1) := by decide +kernel
theorem dX1_canEndBoth_46 : decode cX1_canEndBoth 46 = .ok (.aload_n 0, 1) := by decide +kernel
theorem dX1_canEndBoth_47 : decode cX1_canEndBoth 47 = .ok (.getfield 45, 3) := by decide +kernel
theorem dX1_canEndBoth_50 : decode cX1_canEndBoth 50 = .ok (.invokevirtual 52, 3) := by decide +kernel
theorem dX1_canEndBoth_53 : decode cX1_canEndBoth 53 = .ok (.iload 5, 2) := by decide +kernel
theorem dX1_canEndBoth_55 : decode cX1_canEndBoth 55 = .ok (.ifCond .ne 24, 3) := by decide +kernel
theorem dX1_canEndBoth_58 : decode cX1_canEndBoth 58 = .ok (.aload_n 0, 1) := by decide +kernel
theorem dX1_canEndBoth_59 : decode cX1_canEndBoth 59 = .ok (.getfield 28, 3) := by decide +kernel
theorem dX1_canEndBoth_62 : decode cX1_canEndBoth 62 = .ok (.iload_n 1, 1) := by decide +kernel
theorem dX1_canEndBoth_63 : decode cX1_canEndBoth 63 = .ok (.iaload, 1) := by decide +kernel
theorem dX1_canEndBoth_64 : decode cX1_canEndBoth 64 = .ok (.iload_n 2, 1) := by decide +kernel
theorem dX1_canEndBoth_65 : decode cX1_canEndBoth 65 = .ok (.if_icmp .ne 18, 3) := by decide +kernel
theorem dX1_canEndBoth_68 : decode cX1_canEndBoth 68 = .ok (.aload_n 0, 1) := by decide +kernel
theorem dX1_canEndBoth_69 : decode cX1_canEndBoth 69 = .ok (.getfield 28, 3) := by decide +kernel
theorem dX1_canEndBoth_72 : decode cX1_canEndBoth 72 = .ok (.iload_n 3, 1) := by decide +kernel
theorem dX1_canEndBoth_73 : decode cX1_canEndBoth 73 = .ok (.iaload, 1) := by decide +kernel
theorem dX1_canEndBoth_74 : decode cX1_canEndBoth 74 = .ok (.iload 4, 2) := by decide +kernel
theorem dX1_canEndBoth_76 : decode cX1_canEndBoth 76 = .ok (.if_icmp .ne 7, 3) := by decide +kernel
theorem dX1_canEndBoth_79 : decode cX1_canEndBoth 79 = .ok (.iconst 1, 1) := by decide +kernel
theorem dX1_canEndBoth_80 : decode cX1_canEndBoth 80 = .ok (.goto 4, 3) := by decide +kernel
theorem dX1_canEndBoth_83 : decode cX1_canEndBoth 83 = .ok (.iconst 0, 1) := by decide +kernel
theorem dX1_canEndBoth_84 : decode cX1_canEndBoth 84 = .ok (.istore 5, 2) := by decide +kernel
theorem dX1_canEndBoth_86 : decode cX1_canEndBoth 86 = .ok (.aload_n 0, 1) := by decide +kernel
theorem dX1_canEndBoth_87 : decode cX1_canEndBoth 87 = .ok (.invokevirtual 66, 3) := by decide +kernel
theorem dX1_canEndBoth_90 : decode cX1_canEndBoth 90 = .ok (.istore 6, 2) := by decide +kernel
theorem dX1_canEndBoth_92 : decode cX1_canEndBoth 92 = .ok (.iinc 7 1, 3) := by decide +kernel
theorem dX1_canEndBoth_95 : decode cX1_canEndBoth 95 = .ok (.goto (-62), 3) := by decide +kernel
theorem dX1_canEndBoth_98 : decode cX1_canEndBoth 98 = .ok (.iload 5, 2) := by decide +kernel
theorem dX1_canEndBoth_100 : decode cX1_canEndBoth 100 = .ok (.ireturn, 1) := by decide +kernel
theorem dX1_extreme_0 : decode cX1_extreme 0 = .ok (.iload_n 1, 1) := by decide +kernel
theorem dX1_extreme_1 : decode cX1_extreme 1 = .ok (.ifCond .lt 17, 3) := by decide +kernel
theorem dX1_extreme_4 : decode cX1_extreme 4 = .ok (.iload_n 1, 1) := by decide +kernel
theorem dX1_extreme_5 : decode cX1_extreme 5 = .ok (.iconst 2, 1) := by decide +kernel
theorem dX1_extreme_6 : decode cX1_extreme 6 = .ok (.if_icmp .gt 12, 3) := by decide +kernel
theorem dX1_extreme_9 : decode cX1_extreme 9 = .ok (.iload_n 2, 1) := by decide +kernel
theorem dX1_extreme_10 : decode cX1_extreme 10 = .ok (.ifCond .eq 12, 3) := by decide +kernel
theorem dX1_extreme_13 : decode cX1_extreme 13 = .ok (.iload_n 2, 1) := by decide +kernel
theorem dX1_extreme_14 : decode cX1_extreme 14 = .ok (.iconst 1, 1) := by decide +kernel
theorem dX1_extreme_15 : decode cX1_extreme 15 = .ok (.if_icmp .eq 7, 3) := by decide +kernel
theorem dX1_extreme_18 : decode cX1_extreme 18 = .ok (.iconst 0, 1) := by decide +kernel
theorem dX1_extreme_19 : decode cX1_extreme 19 = .ok (.goto 9, 3) := by decide +kernel
theorem dX1_extreme_22 : decode cX1_extreme 22 = .ok (.aload_n 0, 1) := by decide +kernel
theorem dX1_extreme_23 : decode cX1_extreme 23 = .ok (.iload_n 1, 1) := by decide +kernel
theorem dX1_extreme_24 : decode cX1_extreme 24 = .ok (.iload_n 2, 1) := by decide +kernel
theorem dX1_extreme_25 : decode cX1_extreme 25 = .ok (.invokevirtual 77, 3) := by decide +kernel
theorem dX1_extreme_28 : decode cX1_extreme 28 = .ok (.ireturn, 1) := by decide +kernel
theorem dX1_end_0 : decode cX1_end 0 = .ok (.aload_n 0, 1) := by decide +kernel
theorem dX1_end_1 : decode cX1_end 1 = .ok (.invokevirtual 62, 3) := by decide +kernel
theorem dX1_end_4 : decode cX1_end 4 = .ok (.aload_n 0, 1) := by decide +kernel
theorem dX1_end_5 : decode cX1_end 5 = .ok (.aload_n 0, 1) := by decide +kernel
theorem dX1_end_6 : decode cX1_end 6 = .ok (.getfield 45, 3) := by decide +kernel
theorem dX1_end_9 : decode cX1_end 9 = .ok (.invokevirtual 52, 3) := by decide +kernel
theorem dX1_end_12 : decode cX1_end 12 = .ok (.aload_n 0, 1) := by decide +kernel
theorem dX1_end_13 : decode cX1_end 13 = .ok (.getfield 28, 3) := by decide +kernel
theorem dX1_end_16 : decode cX1_end 16 = .ok (.iload_n 1, 1) := by decide +kernel
theorem dX1_end_17 : decode cX1_end 17 = .ok (.iaload, 1) := by decide +kernel
theorem dX1_end_18 : decode cX1_end 18 = .ok (.istore_n 3, 1) := by decide +kernel
theorem dX1_end_19 : decode cX1_end 19 = .ok (.iconst 1, 1) := by decide +kernel
theorem dX1_end_20 : decode cX1_end 20 = .ok (.istore 4, 2) := by decide +kernel
theorem dX1_end_22 : decode cX1_end 22 = .ok (.iconst 0, 1) := by decide +kernel
theorem dX1_end_23 : decode cX1_end 23 = .ok (.istore 5, 2) := by decide +kernel
theorem dX1_end_25 : decode cX1_end 25 = .ok (.iload 5, 2) := by decide +kernel
theorem dX1_end_27 : decode cX1_end 27 = .ok (.ldc 65, 2) := by decide +kernel
theorem dX1_end_29 : decode cX1_end 29 = .ok (.if_icmp .ge 68, 3) := by decide +kernel
theorem dX1_end_32 : decode cX1_end 32 = .ok (.iload 4, 2) := by decide +kernel
theorem dX1_end_34 : decode cX1_end 34 = .ok (.ifCond .eq 63, 3) := by decide +kernel
theorem dX1_end_37 : decode cX1_end 37 = .ok (.aload_n 0, 1) := by decide +kernel
theorem dX1_end_38 : decode cX1_end 38 = .ok (.aload_n 0, 1) := by decide +kernel
theorem dX1_end_39 : decode cX1_end 39 = .ok (.getfield 45, 3) := by decide +kernel
theorem dX1_end_42 : decode cX1_end 42 = .ok (.invokevirtual 52, 3) := by decide +kernel
theorem dX1_end_45 : decode cX1_end 45 = .ok (.aload_n 0, 1) := by decide +kernel
theorem dX1_end_46 : decode cX1_end 46 = .ok (.getfield 28, 3) := by decide +kernel
theorem dX1_end_49 : decode cX1_end 49 = .ok (.iload_n 1, 1) := by decide +kernel
theorem dX1_end_50 : decode cX1_end 50 = .ok (.iaload, 1) := by decide +kernel
theorem dX1_end_51 : decode cX1_end 51 = .ok (.istore 6, 2) := by decide +kernel
theorem dX1_end_53 : decode cX1_end 53 = .ok (.iload_n 2, 1) := by decide +kernel
theorem dX1_end_54 : decode cX1_end 54 = .ok (.ifCond .ne 18, 3) := by decide +kernel
theorem dX1_end_57 : decode cX1_end 57 = .ok (.iload 6, 2) := by decide +kernel
theorem dX1_end_59 : decode cX1_end 59 = .ok (.iload_n 3, 1) := by decide +kernel
theorem dX1_end_60 : decode cX1_end 60 = .ok (.if_icmp .ge 8, 3) := by decide +kernel
theorem dX1_end_63 : decode cX1_end 63 = .ok (.iload 6, 2) := by decide +kernel
theorem dX1_end_65 : decode cX1_end 65 = .ok (.goto 19, 3) := by decide +kernel
theorem dX1_end_68 : decode cX1_end 68 = .ok (.iload_n 3, 1) := by decide +kernel
theorem dX1_end_69 : decode cX1_end 69 = .ok (.goto 15, 3) := by decide +kernel
theorem dX1_end_72 : decode cX1_end 72 = .ok (.iload 6, 2) := by decide +kernel
theorem dX1_end_74 : decode cX1_end 74 = .ok (.iload_n 3, 1) := by decide +kernel
theorem dX1_end_75 : decode cX1_end 75 = .ok (.if_icmp .le 8, 3) := by decide +kernel
theorem dX1_end_78 : decode cX1_end 78 = .ok (.iload 6, 2) := by decide +kernel
theorem dX1_end_80 : decode cX1_end 80 = .ok (.goto 4, 3) := by decide +kernel
theorem dX1_end_83 : decode cX1_end 83 = .ok (.iload_n 3, 1) := by decide +kernel
theorem dX1_end_84 : decode cX1_end 84 = .ok (.istore_n 3, 1) := by decide +kernel
theorem dX1_end_85 : decode cX1_end 85 = .ok (.aload_n 0, 1) := by decide +kernel
theorem dX1_end_86 : decode cX1_end 86 = .ok (.invokevirtual 66, 3) := by decide +kernel
theorem dX1_end_89 : decode cX1_end 89 = .ok (.istore 4, 2) := by decide +kernel
theorem dX1_end_91 : decode cX1_end 91 = .ok (.iinc 5 1, 3) := by decide +kernel
theorem dX1_end_94 : decode cX1_end 94 = .ok (.goto (-69), 3) := by decide +kernel
theorem dX1_end_97 : decode cX1_end 97 = .ok (.iload_n 3, 1) := by decide +kernel
theorem dX1_end_98 : decode cX1_end 98 = .ok (.ireturn, 1) := by decide +kernel
theorem dX1_accumulator_0 : decode cX1_accumulator 0 = .ok (.aload_n 0, 1) := by decide +kernel
theorem dX1_accumulator_1 : decode cX1_accumulator 1 = .ok (.iload_n 1, 1) := by decide +kernel
theorem dX1_accumulator_2 : decode cX1_accumulator 2 = .ok (.invokevirtual 37, 3) := by decide +kernel
theorem dX1_accumulator_5 : decode cX1_accumulator 5 = .ok (.ifCond .eq 12, 3) := by decide +kernel
theorem dX1_accumulator_8 : decode cX1_accumulator 8 = .ok (.iload_n 2, 1) := by decide +kernel
theorem dX1_accumulator_9 : decode cX1_accumulator 9 = .ok (.ifCond .eq 12, 3) := by decide +kernel
theorem dX1_accumulator_12 : decode cX1_accumulator 12 = .ok (.iload_n 2, 1) := by decide +kernel
theorem dX1_accumulator_13 : decode cX1_accumulator 13 = .ok (.iconst 1, 1) := by decide +kernel
theorem dX1_accumulator_14 : decode cX1_accumulator 14 = .ok (.if_icmp .eq 7, 3) := by decide +kernel
theorem dX1_accumulator_17 : decode cX1_accumulator 17 = .ok (.iconst 0, 1) := by decide +kernel
theorem dX1_accumulator_18 : decode cX1_accumulator 18 = .ok (.goto 11, 3) := by decide +kernel
theorem dX1_accumulator_21 : decode cX1_accumulator 21 = .ok (.aload_n 0, 1) := by decide +kernel
theorem dX1_accumulator_22 : decode cX1_accumulator 22 = .ok (.iconst 3, 1) := by decide +kernel
theorem dX1_accumulator_23 : decode cX1_accumulator 23 = .ok (.iload_n 1, 1) := by decide +kernel
theorem dX1_accumulator_24 : decode cX1_accumulator 24 = .ok (.iadd, 1) := by decide +kernel
theorem dX1_accumulator_25 : decode cX1_accumulator 25 = .ok (.iload_n 2, 1) := by decide +kernel
theorem dX1_accumulator_26 : decode cX1_accumulator 26 = .ok (.invokevirtual 77, 3) := by decide +kernel
theorem dX1_accumulator_29 : decode cX1_accumulator 29 = .ok (.ireturn, 1) := by decide +kernel
theorem dX1_races_0 : decode cX1_races 0 = .ok (.iload_n 1, 1) := by decide +kernel
theorem dX1_races_1 : decode cX1_races 1 = .ok (.ifCond .lt 27, 3) := by decide +kernel
theorem dX1_races_4 : decode cX1_races 4 = .ok (.iload_n 1, 1) := by decide +kernel
theorem dX1_races_5 : decode cX1_races 5 = .ok (.iconst 2, 1) := by decide +kernel
theorem dX1_races_6 : decode cX1_races 6 = .ok (.if_icmp .gt 22, 3) := by decide +kernel
theorem dX1_races_9 : decode cX1_races 9 = .ok (.aload_n 0, 1) := by decide +kernel
theorem dX1_races_10 : decode cX1_races 10 = .ok (.iload_n 1, 1) := by decide +kernel
theorem dX1_races_11 : decode cX1_races 11 = .ok (.iconst 0, 1) := by decide +kernel
theorem dX1_races_12 : decode cX1_races 12 = .ok (.invokevirtual 77, 3) := by decide +kernel
theorem dX1_races_15 : decode cX1_races 15 = .ok (.aload_n 0, 1) := by decide +kernel
theorem dX1_races_16 : decode cX1_races 16 = .ok (.iload_n 1, 1) := by decide +kernel
theorem dX1_races_17 : decode cX1_races 17 = .ok (.iconst 1, 1) := by decide +kernel
theorem dX1_races_18 : decode cX1_races 18 = .ok (.invokevirtual 77, 3) := by decide +kernel
theorem dX1_races_21 : decode cX1_races 21 = .ok (.if_icmp .eq 7, 3) := by decide +kernel
theorem dX1_races_24 : decode cX1_races 24 = .ok (.iconst 1, 1) := by decide +kernel
theorem dX1_races_25 : decode cX1_races 25 = .ok (.goto 4, 3) := by decide +kernel
theorem dX1_races_28 : decode cX1_races 28 = .ok (.iconst 0, 1) := by decide +kernel
theorem dX1_races_29 : decode cX1_races 29 = .ok (.ireturn, 1) := by decide +kernel
end
section
set_option maxRecDepth 100000
theorem dL_law_0 : decode cL_law 0 = .ok (.new 7, 3) := by decide +kernel
theorem dL_law_3 : decode cL_law 3 = .ok (.dup, 1) := by decide +kernel
theorem dL_law_4 : decode cL_law 4 = .ok (.invokespecial 9, 3) := by decide +kernel
theorem dL_law_7 : decode cL_law 7 = .ok (.astore_n 1, 1) := by decide +kernel
theorem dL_law_8 : decode cL_law 8 = .ok (.new 10, 3) := by decide +kernel
theorem dL_law_11 : decode cL_law 11 = .ok (.dup, 1) := by decide +kernel
theorem dL_law_12 : decode cL_law 12 = .ok (.invokespecial 12, 3) := by decide +kernel
theorem dL_law_15 : decode cL_law 15 = .ok (.astore_n 2, 1) := by decide +kernel
theorem dL_law_16 : decode cL_law 16 = .ok (.iconst 0, 1) := by decide +kernel
theorem dL_law_17 : decode cL_law 17 = .ok (.istore_n 3, 1) := by decide +kernel
theorem dL_law_18 : decode cL_law 18 = .ok (.iload_n 3, 1) := by decide +kernel
theorem dL_law_19 : decode cL_law 19 = .ok (.aload_n 0, 1) := by decide +kernel
theorem dL_law_20 : decode cL_law 20 = .ok (.arraylength, 1) := by decide +kernel
theorem dL_law_21 : decode cL_law 21 = .ok (.iconst 5, 1) := by decide +kernel
theorem dL_law_22 : decode cL_law 22 = .ok (.isub, 1) := by decide +kernel
theorem dL_law_23 : decode cL_law 23 = .ok (.if_icmp .gt 425, 3) := by decide +kernel
theorem dL_law_26 : decode cL_law 26 = .ok (.aload_n 0, 1) := by decide +kernel
theorem dL_law_27 : decode cL_law 27 = .ok (.iload_n 3, 1) := by decide +kernel
theorem dL_law_28 : decode cL_law 28 = .ok (.iaload, 1) := by decide +kernel
theorem dL_law_29 : decode cL_law 29 = .ok (.bipush 15, 2) := by decide +kernel
theorem dL_law_31 : decode cL_law 31 = .ok (.iand, 1) := by decide +kernel
theorem dL_law_32 : decode cL_law 32 = .ok (.tableswitch 410 0 11 #[64, 107, 130, 173, 196, 209, 222, 235, 268, 321, 354, 387], 64) := by decide +kernel
theorem dL_law_96 : decode cL_law 96 = .ok (.aload_n 1, 1) := by decide +kernel
theorem dL_law_97 : decode cL_law 97 = .ok (.aload_n 0, 1) := by decide +kernel
theorem dL_law_98 : decode cL_law 98 = .ok (.iload_n 3, 1) := by decide +kernel
theorem dL_law_99 : decode cL_law 99 = .ok (.iconst 1, 1) := by decide +kernel
theorem dL_law_100 : decode cL_law 100 = .ok (.iadd, 1) := by decide +kernel
theorem dL_law_101 : decode cL_law 101 = .ok (.iaload, 1) := by decide +kernel
theorem dL_law_102 : decode cL_law 102 = .ok (.aload_n 0, 1) := by decide +kernel
theorem dL_law_103 : decode cL_law 103 = .ok (.iload_n 3, 1) := by decide +kernel
theorem dL_law_104 : decode cL_law 104 = .ok (.iconst 2, 1) := by decide +kernel
theorem dL_law_105 : decode cL_law 105 = .ok (.iadd, 1) := by decide +kernel
theorem dL_law_106 : decode cL_law 106 = .ok (.iaload, 1) := by decide +kernel
theorem dL_law_107 : decode cL_law 107 = .ok (.aload_n 0, 1) := by decide +kernel
theorem dL_law_108 : decode cL_law 108 = .ok (.iload_n 3, 1) := by decide +kernel
theorem dL_law_109 : decode cL_law 109 = .ok (.iconst 3, 1) := by decide +kernel
theorem dL_law_110 : decode cL_law 110 = .ok (.iadd, 1) := by decide +kernel
theorem dL_law_111 : decode cL_law 111 = .ok (.iaload, 1) := by decide +kernel
theorem dL_law_112 : decode cL_law 112 = .ok (.invokevirtual 13, 3) := by decide +kernel
theorem dL_law_115 : decode cL_law 115 = .ok (.aload_n 2, 1) := by decide +kernel
theorem dL_law_116 : decode cL_law 116 = .ok (.aload_n 0, 1) := by decide +kernel
theorem dL_law_117 : decode cL_law 117 = .ok (.iload_n 3, 1) := by decide +kernel
theorem dL_law_118 : decode cL_law 118 = .ok (.iconst 1, 1) := by decide +kernel
theorem dL_law_119 : decode cL_law 119 = .ok (.iadd, 1) := by decide +kernel
theorem dL_law_120 : decode cL_law 120 = .ok (.iaload, 1) := by decide +kernel
theorem dL_law_121 : decode cL_law 121 = .ok (.aload_n 0, 1) := by decide +kernel
theorem dL_law_122 : decode cL_law 122 = .ok (.iload_n 3, 1) := by decide +kernel
theorem dL_law_123 : decode cL_law 123 = .ok (.iconst 2, 1) := by decide +kernel
theorem dL_law_124 : decode cL_law 124 = .ok (.iadd, 1) := by decide +kernel
theorem dL_law_125 : decode cL_law 125 = .ok (.iaload, 1) := by decide +kernel
theorem dL_law_126 : decode cL_law 126 = .ok (.aload_n 0, 1) := by decide +kernel
theorem dL_law_127 : decode cL_law 127 = .ok (.iload_n 3, 1) := by decide +kernel
theorem dL_law_128 : decode cL_law 128 = .ok (.iconst 3, 1) := by decide +kernel
theorem dL_law_129 : decode cL_law 129 = .ok (.iadd, 1) := by decide +kernel
theorem dL_law_130 : decode cL_law 130 = .ok (.iaload, 1) := by decide +kernel
theorem dL_law_131 : decode cL_law 131 = .ok (.invokevirtual 17, 3) := by decide +kernel
theorem dL_law_134 : decode cL_law 134 = .ok (.if_icmp .eq 308, 3) := by decide +kernel
theorem dL_law_137 : decode cL_law 137 = .ok (.iconst 0, 1) := by decide +kernel
theorem dL_law_138 : decode cL_law 138 = .ok (.ireturn, 1) := by decide +kernel
theorem dL_law_139 : decode cL_law 139 = .ok (.aload_n 1, 1) := by decide +kernel
theorem dL_law_140 : decode cL_law 140 = .ok (.aload_n 0, 1) := by decide +kernel
theorem dL_law_141 : decode cL_law 141 = .ok (.iload_n 3, 1) := by decide +kernel
theorem dL_law_142 : decode cL_law 142 = .ok (.iconst 1, 1) := by decide +kernel
theorem dL_law_143 : decode cL_law 143 = .ok (.iadd, 1) := by decide +kernel
theorem dL_law_144 : decode cL_law 144 = .ok (.iaload, 1) := by decide +kernel
theorem dL_law_145 : decode cL_law 145 = .ok (.invokevirtual 18, 3) := by decide +kernel
theorem dL_law_148 : decode cL_law 148 = .ok (.aload_n 2, 1) := by decide +kernel
theorem dL_law_149 : decode cL_law 149 = .ok (.aload_n 0, 1) := by decide +kernel
theorem dL_law_150 : decode cL_law 150 = .ok (.iload_n 3, 1) := by decide +kernel
theorem dL_law_151 : decode cL_law 151 = .ok (.iconst 1, 1) := by decide +kernel
theorem dL_law_152 : decode cL_law 152 = .ok (.iadd, 1) := by decide +kernel
theorem dL_law_153 : decode cL_law 153 = .ok (.iaload, 1) := by decide +kernel
theorem dL_law_154 : decode cL_law 154 = .ok (.invokevirtual 22, 3) := by decide +kernel
theorem dL_law_157 : decode cL_law 157 = .ok (.if_icmp .eq 285, 3) := by decide +kernel
theorem dL_law_160 : decode cL_law 160 = .ok (.iconst 0, 1) := by decide +kernel
theorem dL_law_161 : decode cL_law 161 = .ok (.ireturn, 1) := by decide +kernel
theorem dL_law_162 : decode cL_law 162 = .ok (.aload_n 1, 1) := by decide +kernel
theorem dL_law_163 : decode cL_law 163 = .ok (.aload_n 0, 1) := by decide +kernel
theorem dL_law_164 : decode cL_law 164 = .ok (.iload_n 3, 1) := by decide +kernel
theorem dL_law_165 : decode cL_law 165 = .ok (.iconst 1, 1) := by decide +kernel
theorem dL_law_166 : decode cL_law 166 = .ok (.iadd, 1) := by decide +kernel
theorem dL_law_167 : decode cL_law 167 = .ok (.iaload, 1) := by decide +kernel
theorem dL_law_168 : decode cL_law 168 = .ok (.aload_n 0, 1) := by decide +kernel
theorem dL_law_169 : decode cL_law 169 = .ok (.iload_n 3, 1) := by decide +kernel
theorem dL_law_170 : decode cL_law 170 = .ok (.iconst 2, 1) := by decide +kernel
theorem dL_law_171 : decode cL_law 171 = .ok (.iadd, 1) := by decide +kernel
theorem dL_law_172 : decode cL_law 172 = .ok (.iaload, 1) := by decide +kernel
theorem dL_law_173 : decode cL_law 173 = .ok (.aload_n 0, 1) := by decide +kernel
theorem dL_law_174 : decode cL_law 174 = .ok (.iload_n 3, 1) := by decide +kernel
theorem dL_law_175 : decode cL_law 175 = .ok (.iconst 3, 1) := by decide +kernel
theorem dL_law_176 : decode cL_law 176 = .ok (.iadd, 1) := by decide +kernel
theorem dL_law_177 : decode cL_law 177 = .ok (.iaload, 1) := by decide +kernel
theorem dL_law_178 : decode cL_law 178 = .ok (.invokevirtual 23, 3) := by decide +kernel
theorem dL_law_181 : decode cL_law 181 = .ok (.aload_n 2, 1) := by decide +kernel
theorem dL_law_182 : decode cL_law 182 = .ok (.aload_n 0, 1) := by decide +kernel
theorem dL_law_183 : decode cL_law 183 = .ok (.iload_n 3, 1) := by decide +kernel
theorem dL_law_184 : decode cL_law 184 = .ok (.iconst 1, 1) := by decide +kernel
theorem dL_law_185 : decode cL_law 185 = .ok (.iadd, 1) := by decide +kernel
theorem dL_law_186 : decode cL_law 186 = .ok (.iaload, 1) := by decide +kernel
theorem dL_law_187 : decode cL_law 187 = .ok (.aload_n 0, 1) := by decide +kernel
theorem dL_law_188 : decode cL_law 188 = .ok (.iload_n 3, 1) := by decide +kernel
theorem dL_law_189 : decode cL_law 189 = .ok (.iconst 2, 1) := by decide +kernel
theorem dL_law_190 : decode cL_law 190 = .ok (.iadd, 1) := by decide +kernel
theorem dL_law_191 : decode cL_law 191 = .ok (.iaload, 1) := by decide +kernel
theorem dL_law_192 : decode cL_law 192 = .ok (.aload_n 0, 1) := by decide +kernel
theorem dL_law_193 : decode cL_law 193 = .ok (.iload_n 3, 1) := by decide +kernel
theorem dL_law_194 : decode cL_law 194 = .ok (.iconst 3, 1) := by decide +kernel
theorem dL_law_195 : decode cL_law 195 = .ok (.iadd, 1) := by decide +kernel
theorem dL_law_196 : decode cL_law 196 = .ok (.iaload, 1) := by decide +kernel
theorem dL_law_197 : decode cL_law 197 = .ok (.invokevirtual 27, 3) := by decide +kernel
theorem dL_law_200 : decode cL_law 200 = .ok (.if_icmp .eq 242, 3) := by decide +kernel
theorem dL_law_203 : decode cL_law 203 = .ok (.iconst 0, 1) := by decide +kernel
theorem dL_law_204 : decode cL_law 204 = .ok (.ireturn, 1) := by decide +kernel
theorem dL_law_205 : decode cL_law 205 = .ok (.aload_n 1, 1) := by decide +kernel
theorem dL_law_206 : decode cL_law 206 = .ok (.aload_n 0, 1) := by decide +kernel
theorem dL_law_207 : decode cL_law 207 = .ok (.iload_n 3, 1) := by decide +kernel
theorem dL_law_208 : decode cL_law 208 = .ok (.iconst 1, 1) := by decide +kernel
theorem dL_law_209 : decode cL_law 209 = .ok (.iadd, 1) := by decide +kernel
theorem dL_law_210 : decode cL_law 210 = .ok (.iaload, 1) := by decide +kernel
theorem dL_law_211 : decode cL_law 211 = .ok (.invokevirtual 28, 3) := by decide +kernel
theorem dL_law_214 : decode cL_law 214 = .ok (.aload_n 2, 1) := by decide +kernel
theorem dL_law_215 : decode cL_law 215 = .ok (.aload_n 0, 1) := by decide +kernel
theorem dL_law_216 : decode cL_law 216 = .ok (.iload_n 3, 1) := by decide +kernel
theorem dL_law_217 : decode cL_law 217 = .ok (.iconst 1, 1) := by decide +kernel
theorem dL_law_218 : decode cL_law 218 = .ok (.iadd, 1) := by decide +kernel
theorem dL_law_219 : decode cL_law 219 = .ok (.iaload, 1) := by decide +kernel
theorem dL_law_220 : decode cL_law 220 = .ok (.invokevirtual 31, 3) := by decide +kernel
theorem dL_law_223 : decode cL_law 223 = .ok (.if_icmp .eq 219, 3) := by decide +kernel
theorem dL_law_226 : decode cL_law 226 = .ok (.iconst 0, 1) := by decide +kernel
theorem dL_law_227 : decode cL_law 227 = .ok (.ireturn, 1) := by decide +kernel
theorem dL_law_228 : decode cL_law 228 = .ok (.aload_n 1, 1) := by decide +kernel
theorem dL_law_229 : decode cL_law 229 = .ok (.invokevirtual 32, 3) := by decide +kernel
theorem dL_law_232 : decode cL_law 232 = .ok (.aload_n 2, 1) := by decide +kernel
theorem dL_law_233 : decode cL_law 233 = .ok (.invokevirtual 36, 3) := by decide +kernel
theorem dL_law_236 : decode cL_law 236 = .ok (.if_icmp .eq 206, 3) := by decide +kernel
theorem dL_law_239 : decode cL_law 239 = .ok (.iconst 0, 1) := by decide +kernel
theorem dL_law_240 : decode cL_law 240 = .ok (.ireturn, 1) := by decide +kernel
theorem dL_law_241 : decode cL_law 241 = .ok (.aload_n 1, 1) := by decide +kernel
theorem dL_law_242 : decode cL_law 242 = .ok (.invokevirtual 37, 3) := by decide +kernel
theorem dL_law_245 : decode cL_law 245 = .ok (.aload_n 2, 1) := by decide +kernel
theorem dL_law_246 : decode cL_law 246 = .ok (.invokevirtual 40, 3) := by decide +kernel
theorem dL_law_249 : decode cL_law 249 = .ok (.if_icmp .eq 193, 3) := by decide +kernel
theorem dL_law_252 : decode cL_law 252 = .ok (.iconst 0, 1) := by decide +kernel
theorem dL_law_253 : decode cL_law 253 = .ok (.ireturn, 1) := by decide +kernel
theorem dL_law_254 : decode cL_law 254 = .ok (.aload_n 1, 1) := by decide +kernel
theorem dL_law_255 : decode cL_law 255 = .ok (.invokevirtual 41, 3) := by decide +kernel
theorem dL_law_258 : decode cL_law 258 = .ok (.aload_n 2, 1) := by decide +kernel
theorem dL_law_259 : decode cL_law 259 = .ok (.invokevirtual 45, 3) := by decide +kernel
theorem dL_law_262 : decode cL_law 262 = .ok (.if_icmp .eq 180, 3) := by decide +kernel
theorem dL_law_265 : decode cL_law 265 = .ok (.iconst 0, 1) := by decide +kernel
end
section
set_option maxRecDepth 100000
theorem dL_law_266 : decode cL_law 266 = .ok (.ireturn, 1) := by decide +kernel
theorem dL_law_267 : decode cL_law 267 = .ok (.aload_n 1, 1) := by decide +kernel
theorem dL_law_268 : decode cL_law 268 = .ok (.aload_n 0, 1) := by decide +kernel
theorem dL_law_269 : decode cL_law 269 = .ok (.iload_n 3, 1) := by decide +kernel
theorem dL_law_270 : decode cL_law 270 = .ok (.iconst 1, 1) := by decide +kernel
theorem dL_law_271 : decode cL_law 271 = .ok (.iadd, 1) := by decide +kernel
theorem dL_law_272 : decode cL_law 272 = .ok (.iaload, 1) := by decide +kernel
theorem dL_law_273 : decode cL_law 273 = .ok (.aload_n 0, 1) := by decide +kernel
theorem dL_law_274 : decode cL_law 274 = .ok (.iload_n 3, 1) := by decide +kernel
theorem dL_law_275 : decode cL_law 275 = .ok (.iconst 2, 1) := by decide +kernel
theorem dL_law_276 : decode cL_law 276 = .ok (.iadd, 1) := by decide +kernel
theorem dL_law_277 : decode cL_law 277 = .ok (.iaload, 1) := by decide +kernel
theorem dL_law_278 : decode cL_law 278 = .ok (.invokevirtual 46, 3) := by decide +kernel
theorem dL_law_281 : decode cL_law 281 = .ok (.aload_n 2, 1) := by decide +kernel
theorem dL_law_282 : decode cL_law 282 = .ok (.aload_n 0, 1) := by decide +kernel
theorem dL_law_283 : decode cL_law 283 = .ok (.iload_n 3, 1) := by decide +kernel
theorem dL_law_284 : decode cL_law 284 = .ok (.iconst 1, 1) := by decide +kernel
theorem dL_law_285 : decode cL_law 285 = .ok (.iadd, 1) := by decide +kernel
theorem dL_law_286 : decode cL_law 286 = .ok (.iaload, 1) := by decide +kernel
theorem dL_law_287 : decode cL_law 287 = .ok (.aload_n 0, 1) := by decide +kernel
theorem dL_law_288 : decode cL_law 288 = .ok (.iload_n 3, 1) := by decide +kernel
theorem dL_law_289 : decode cL_law 289 = .ok (.iconst 2, 1) := by decide +kernel
theorem dL_law_290 : decode cL_law 290 = .ok (.iadd, 1) := by decide +kernel
theorem dL_law_291 : decode cL_law 291 = .ok (.iaload, 1) := by decide +kernel
theorem dL_law_292 : decode cL_law 292 = .ok (.invokevirtual 50, 3) := by decide +kernel
theorem dL_law_295 : decode cL_law 295 = .ok (.if_icmp .eq 147, 3) := by decide +kernel
theorem dL_law_298 : decode cL_law 298 = .ok (.iconst 0, 1) := by decide +kernel
theorem dL_law_299 : decode cL_law 299 = .ok (.ireturn, 1) := by decide +kernel
theorem dL_law_300 : decode cL_law 300 = .ok (.aload_n 1, 1) := by decide +kernel
theorem dL_law_301 : decode cL_law 301 = .ok (.aload_n 0, 1) := by decide +kernel
theorem dL_law_302 : decode cL_law 302 = .ok (.iload_n 3, 1) := by decide +kernel
theorem dL_law_303 : decode cL_law 303 = .ok (.iconst 1, 1) := by decide +kernel
theorem dL_law_304 : decode cL_law 304 = .ok (.iadd, 1) := by decide +kernel
theorem dL_law_305 : decode cL_law 305 = .ok (.iaload, 1) := by decide +kernel
theorem dL_law_306 : decode cL_law 306 = .ok (.aload_n 0, 1) := by decide +kernel
theorem dL_law_307 : decode cL_law 307 = .ok (.iload_n 3, 1) := by decide +kernel
theorem dL_law_308 : decode cL_law 308 = .ok (.iconst 2, 1) := by decide +kernel
theorem dL_law_309 : decode cL_law 309 = .ok (.iadd, 1) := by decide +kernel
theorem dL_law_310 : decode cL_law 310 = .ok (.iaload, 1) := by decide +kernel
theorem dL_law_311 : decode cL_law 311 = .ok (.aload_n 0, 1) := by decide +kernel
theorem dL_law_312 : decode cL_law 312 = .ok (.iload_n 3, 1) := by decide +kernel
theorem dL_law_313 : decode cL_law 313 = .ok (.iconst 3, 1) := by decide +kernel
theorem dL_law_314 : decode cL_law 314 = .ok (.iadd, 1) := by decide +kernel
theorem dL_law_315 : decode cL_law 315 = .ok (.iaload, 1) := by decide +kernel
theorem dL_law_316 : decode cL_law 316 = .ok (.aload_n 0, 1) := by decide +kernel
theorem dL_law_317 : decode cL_law 317 = .ok (.iload_n 3, 1) := by decide +kernel
theorem dL_law_318 : decode cL_law 318 = .ok (.iconst 4, 1) := by decide +kernel
theorem dL_law_319 : decode cL_law 319 = .ok (.iadd, 1) := by decide +kernel
theorem dL_law_320 : decode cL_law 320 = .ok (.iaload, 1) := by decide +kernel
theorem dL_law_321 : decode cL_law 321 = .ok (.invokevirtual 51, 3) := by decide +kernel
theorem dL_law_324 : decode cL_law 324 = .ok (.aload_n 2, 1) := by decide +kernel
theorem dL_law_325 : decode cL_law 325 = .ok (.aload_n 0, 1) := by decide +kernel
theorem dL_law_326 : decode cL_law 326 = .ok (.iload_n 3, 1) := by decide +kernel
theorem dL_law_327 : decode cL_law 327 = .ok (.iconst 1, 1) := by decide +kernel
theorem dL_law_328 : decode cL_law 328 = .ok (.iadd, 1) := by decide +kernel
theorem dL_law_329 : decode cL_law 329 = .ok (.iaload, 1) := by decide +kernel
theorem dL_law_330 : decode cL_law 330 = .ok (.aload_n 0, 1) := by decide +kernel
theorem dL_law_331 : decode cL_law 331 = .ok (.iload_n 3, 1) := by decide +kernel
theorem dL_law_332 : decode cL_law 332 = .ok (.iconst 2, 1) := by decide +kernel
theorem dL_law_333 : decode cL_law 333 = .ok (.iadd, 1) := by decide +kernel
theorem dL_law_334 : decode cL_law 334 = .ok (.iaload, 1) := by decide +kernel
theorem dL_law_335 : decode cL_law 335 = .ok (.aload_n 0, 1) := by decide +kernel
theorem dL_law_336 : decode cL_law 336 = .ok (.iload_n 3, 1) := by decide +kernel
theorem dL_law_337 : decode cL_law 337 = .ok (.iconst 3, 1) := by decide +kernel
theorem dL_law_338 : decode cL_law 338 = .ok (.iadd, 1) := by decide +kernel
theorem dL_law_339 : decode cL_law 339 = .ok (.iaload, 1) := by decide +kernel
theorem dL_law_340 : decode cL_law 340 = .ok (.aload_n 0, 1) := by decide +kernel
theorem dL_law_341 : decode cL_law 341 = .ok (.iload_n 3, 1) := by decide +kernel
theorem dL_law_342 : decode cL_law 342 = .ok (.iconst 4, 1) := by decide +kernel
theorem dL_law_343 : decode cL_law 343 = .ok (.iadd, 1) := by decide +kernel
theorem dL_law_344 : decode cL_law 344 = .ok (.iaload, 1) := by decide +kernel
theorem dL_law_345 : decode cL_law 345 = .ok (.invokevirtual 55, 3) := by decide +kernel
theorem dL_law_348 : decode cL_law 348 = .ok (.if_icmp .eq 94, 3) := by decide +kernel
theorem dL_law_351 : decode cL_law 351 = .ok (.iconst 0, 1) := by decide +kernel
theorem dL_law_352 : decode cL_law 352 = .ok (.ireturn, 1) := by decide +kernel
theorem dL_law_353 : decode cL_law 353 = .ok (.aload_n 1, 1) := by decide +kernel
theorem dL_law_354 : decode cL_law 354 = .ok (.aload_n 0, 1) := by decide +kernel
theorem dL_law_355 : decode cL_law 355 = .ok (.iload_n 3, 1) := by decide +kernel
theorem dL_law_356 : decode cL_law 356 = .ok (.iconst 1, 1) := by decide +kernel
theorem dL_law_357 : decode cL_law 357 = .ok (.iadd, 1) := by decide +kernel
theorem dL_law_358 : decode cL_law 358 = .ok (.iaload, 1) := by decide +kernel
theorem dL_law_359 : decode cL_law 359 = .ok (.aload_n 0, 1) := by decide +kernel
theorem dL_law_360 : decode cL_law 360 = .ok (.iload_n 3, 1) := by decide +kernel
theorem dL_law_361 : decode cL_law 361 = .ok (.iconst 2, 1) := by decide +kernel
theorem dL_law_362 : decode cL_law 362 = .ok (.iadd, 1) := by decide +kernel
theorem dL_law_363 : decode cL_law 363 = .ok (.iaload, 1) := by decide +kernel
theorem dL_law_364 : decode cL_law 364 = .ok (.invokevirtual 56, 3) := by decide +kernel
theorem dL_law_367 : decode cL_law 367 = .ok (.aload_n 2, 1) := by decide +kernel
theorem dL_law_368 : decode cL_law 368 = .ok (.aload_n 0, 1) := by decide +kernel
theorem dL_law_369 : decode cL_law 369 = .ok (.iload_n 3, 1) := by decide +kernel
theorem dL_law_370 : decode cL_law 370 = .ok (.iconst 1, 1) := by decide +kernel
theorem dL_law_371 : decode cL_law 371 = .ok (.iadd, 1) := by decide +kernel
theorem dL_law_372 : decode cL_law 372 = .ok (.iaload, 1) := by decide +kernel
theorem dL_law_373 : decode cL_law 373 = .ok (.aload_n 0, 1) := by decide +kernel
theorem dL_law_374 : decode cL_law 374 = .ok (.iload_n 3, 1) := by decide +kernel
theorem dL_law_375 : decode cL_law 375 = .ok (.iconst 2, 1) := by decide +kernel
theorem dL_law_376 : decode cL_law 376 = .ok (.iadd, 1) := by decide +kernel
theorem dL_law_377 : decode cL_law 377 = .ok (.iaload, 1) := by decide +kernel
theorem dL_law_378 : decode cL_law 378 = .ok (.invokevirtual 60, 3) := by decide +kernel
theorem dL_law_381 : decode cL_law 381 = .ok (.if_icmp .eq 61, 3) := by decide +kernel
theorem dL_law_384 : decode cL_law 384 = .ok (.iconst 0, 1) := by decide +kernel
theorem dL_law_385 : decode cL_law 385 = .ok (.ireturn, 1) := by decide +kernel
theorem dL_law_386 : decode cL_law 386 = .ok (.aload_n 1, 1) := by decide +kernel
theorem dL_law_387 : decode cL_law 387 = .ok (.aload_n 0, 1) := by decide +kernel
theorem dL_law_388 : decode cL_law 388 = .ok (.iload_n 3, 1) := by decide +kernel
theorem dL_law_389 : decode cL_law 389 = .ok (.iconst 1, 1) := by decide +kernel
theorem dL_law_390 : decode cL_law 390 = .ok (.iadd, 1) := by decide +kernel
theorem dL_law_391 : decode cL_law 391 = .ok (.iaload, 1) := by decide +kernel
theorem dL_law_392 : decode cL_law 392 = .ok (.aload_n 0, 1) := by decide +kernel
theorem dL_law_393 : decode cL_law 393 = .ok (.iload_n 3, 1) := by decide +kernel
theorem dL_law_394 : decode cL_law 394 = .ok (.iconst 2, 1) := by decide +kernel
theorem dL_law_395 : decode cL_law 395 = .ok (.iadd, 1) := by decide +kernel
theorem dL_law_396 : decode cL_law 396 = .ok (.iaload, 1) := by decide +kernel
theorem dL_law_397 : decode cL_law 397 = .ok (.invokevirtual 61, 3) := by decide +kernel
theorem dL_law_400 : decode cL_law 400 = .ok (.aload_n 2, 1) := by decide +kernel
theorem dL_law_401 : decode cL_law 401 = .ok (.aload_n 0, 1) := by decide +kernel
theorem dL_law_402 : decode cL_law 402 = .ok (.iload_n 3, 1) := by decide +kernel
theorem dL_law_403 : decode cL_law 403 = .ok (.iconst 1, 1) := by decide +kernel
theorem dL_law_404 : decode cL_law 404 = .ok (.iadd, 1) := by decide +kernel
theorem dL_law_405 : decode cL_law 405 = .ok (.iaload, 1) := by decide +kernel
theorem dL_law_406 : decode cL_law 406 = .ok (.aload_n 0, 1) := by decide +kernel
theorem dL_law_407 : decode cL_law 407 = .ok (.iload_n 3, 1) := by decide +kernel
theorem dL_law_408 : decode cL_law 408 = .ok (.iconst 2, 1) := by decide +kernel
theorem dL_law_409 : decode cL_law 409 = .ok (.iadd, 1) := by decide +kernel
theorem dL_law_410 : decode cL_law 410 = .ok (.iaload, 1) := by decide +kernel
theorem dL_law_411 : decode cL_law 411 = .ok (.invokevirtual 64, 3) := by decide +kernel
theorem dL_law_414 : decode cL_law 414 = .ok (.if_icmp .eq 28, 3) := by decide +kernel
theorem dL_law_417 : decode cL_law 417 = .ok (.iconst 0, 1) := by decide +kernel
theorem dL_law_418 : decode cL_law 418 = .ok (.ireturn, 1) := by decide +kernel
theorem dL_law_419 : decode cL_law 419 = .ok (.aload_n 1, 1) := by decide +kernel
theorem dL_law_420 : decode cL_law 420 = .ok (.aload_n 0, 1) := by decide +kernel
theorem dL_law_421 : decode cL_law 421 = .ok (.iload_n 3, 1) := by decide +kernel
theorem dL_law_422 : decode cL_law 422 = .ok (.iconst 1, 1) := by decide +kernel
theorem dL_law_423 : decode cL_law 423 = .ok (.iadd, 1) := by decide +kernel
theorem dL_law_424 : decode cL_law 424 = .ok (.iaload, 1) := by decide +kernel
theorem dL_law_425 : decode cL_law 425 = .ok (.invokevirtual 65, 3) := by decide +kernel
theorem dL_law_428 : decode cL_law 428 = .ok (.aload_n 2, 1) := by decide +kernel
theorem dL_law_429 : decode cL_law 429 = .ok (.aload_n 0, 1) := by decide +kernel
theorem dL_law_430 : decode cL_law 430 = .ok (.iload_n 3, 1) := by decide +kernel
theorem dL_law_431 : decode cL_law 431 = .ok (.iconst 1, 1) := by decide +kernel
theorem dL_law_432 : decode cL_law 432 = .ok (.iadd, 1) := by decide +kernel
theorem dL_law_433 : decode cL_law 433 = .ok (.iaload, 1) := by decide +kernel
theorem dL_law_434 : decode cL_law 434 = .ok (.invokevirtual 69, 3) := by decide +kernel
theorem dL_law_437 : decode cL_law 437 = .ok (.if_icmp .eq 5, 3) := by decide +kernel
theorem dL_law_440 : decode cL_law 440 = .ok (.iconst 0, 1) := by decide +kernel
theorem dL_law_441 : decode cL_law 441 = .ok (.ireturn, 1) := by decide +kernel
theorem dL_law_442 : decode cL_law 442 = .ok (.iinc 3 5, 3) := by decide +kernel
theorem dL_law_445 : decode cL_law 445 = .ok (.goto (-427), 3) := by decide +kernel
theorem dL_law_448 : decode cL_law 448 = .ok (.iconst 1, 1) := by decide +kernel
theorem dL_law_449 : decode cL_law 449 = .ok (.ireturn, 1) := by decide +kernel
end
section
/-! THE OWN JUDGEMENT ww: the machine at a pc with a world w (the cells), locals lv, operand stack st; heap, written places and the array of locals are quantified. X bundles what stays the same in a method. -/
abbrev vwCl : List vw_C := [(RX0, TX0, 22), (RX1, TX1, 10)]
abbrev Cx := Program × Launch × Env × Room × State × MethodId × Array Value × List Frame × Method × Code × va_G × (Nat → Prop) × Nat × Nat × Nat × (State → Prop)
abbrev cx_p (X : Cx) := X.1
abbrev cx_l (X : Cx) := X.2.1
abbrev cx_e (X : Cx) := X.2.2.1
abbrev cx_R (X : Cx) := X.2.2.2.1
abbrev cx_s (X : Cx) := X.2.2.2.2.1
abbrev cx_m (X : Cx) := X.2.2.2.2.2.1
abbrev cx_a (X : Cx) := X.2.2.2.2.2.2.1
abbrev cx_b (X : Cx) := X.2.2.2.2.2.2.2.1
abbrev cx_t (X : Cx) := X.2.2.2.2.2.2.2.2.1
abbrev cx_c (X : Cx) := X.2.2.2.2.2.2.2.2.2.1
abbrev cx_D (X : Cx) := X.2.2.2.2.2.2.2.2.2.2.1
abbrev cx_A (X : Cx) := X.2.2.2.2.2.2.2.2.2.2.2.1
abbrev cx_n (X : Cx) := X.2.2.2.2.2.2.2.2.2.2.2.2.1
abbrev cx_k (X : Cx) := X.2.2.2.2.2.2.2.2.2.2.2.2.2.1
abbrev cx_z (X : Cx) := X.2.2.2.2.2.2.2.2.2.2.2.2.2.2.1
abbrev cx_Q (X : Cx) := X.2.2.2.2.2.2.2.2.2.2.2.2.2.2.2
def ww (X : Cx) (w : va_W) (lv : List (Nat × Value)) (pc : Nat) (st : List Value) : Prop :=
  ∀ (H : Heap) (locs : List Loc) (ls : Array Slot), va_P (cx_D X) vwCl w H → va_D (cx_A X) w → va_S (cx_A X) (cx_s X).heap H locs → lv_has ls (cx_n X) lv →
    W (cx_p X) (cx_l X) (cx_e X) (cx_R X) (cx_s X) (cx_m X) (cx_a X) (cx_b X) (cx_t X) (cx_c X) H locs (cx_k X) (cx_z X) (cx_Q X) (F0 (cx_m X) pc ls st)
abbrev ty2 (cB cI : ClassId) : List (ClassId × FieldType) := [(cB, .byte), (cI, .int)]
/-- what is known of a method's context: machine, code, locals, owner, words, kinds of arrays, room, what it may write -/
def Fx (X : Cx) (cc : ByteArray) (own : String) (nL fr lo : Nat) (cB cI : ClassId) : Prop :=
  (cx_p X).tables.exec = Jvm.exec ∧ (cx_c X).code = cc ∧ ((cx_c X).maxLocals = cx_n X ∧ cx_n X = nL) ∧ (cx_s X).vm.findClass own = some (cx_m X).cls ∧ (∀ w ∈ lw_all, w.before (cx_a X) (cx_s X) = true) ∧
  va_K (cx_D X) vwCl (ty2 cB cI) (cx_s X) ∧ (cx_k X ≤ (cx_R X).cells ∧ cx_z X ≤ (cx_R X).slots ∧ fr ≤ (cx_R X).frames ∧ lo ≤ (cx_R X).locals) ∧ ∀ q : Nat, (cx_s X).heap.size ≤ q → cx_A X q
section WWF
variable {X : Cx} {cc : ByteArray} {own : String} {nL fr lo : Nat} {cB cI : ClassId}
theorem Fx.x (h : Fx X cc own nL fr lo cB cI) : (cx_p X).tables.exec = Jvm.exec := h.1
theorem Fx.b (h : Fx X cc own nL fr lo cB cI) : (cx_c X).code = cc := h.2.1
theorem Fx.ml (h : Fx X cc own nL fr lo cB cI) : (cx_c X).maxLocals = cx_n X := h.2.2.1.1
theorem Fx.nl (h : Fx X cc own nL fr lo cB cI) : cx_n X = nL := h.2.2.1.2
theorem Fx.o (h : Fx X cc own nL fr lo cB cI) : (cx_s X).vm.findClass own = some (cx_m X).cls := h.2.2.2.1
theorem Fx.ts (h : Fx X cc own nL fr lo cB cI) : ∀ w ∈ lw_all, w.before (cx_a X) (cx_s X) = true := h.2.2.2.2.1
theorem Fx.K (h : Fx X cc own nL fr lo cB cI) : va_K (cx_D X) vwCl (ty2 cB cI) (cx_s X) := h.2.2.2.2.2.1
theorem Fx.R (h : Fx X cc own nL fr lo cB cI) : cx_k X ≤ (cx_R X).cells ∧ cx_z X ≤ (cx_R X).slots ∧ fr ≤ (cx_R X).frames ∧ lo ≤ (cx_R X).locals := h.2.2.2.2.2.2.1
theorem Fx.A (h : Fx X cc own nL fr lo cB cI) : ∀ q : Nat, (cx_s X).heap.size ≤ q → cx_A X q := h.2.2.2.2.2.2.2
end WWF
section WWR
variable {X : Cx} {cc : ByteArray} {own : String} {nL fr lo : Nat} {cB cI : ClassId} {w : va_W} {lv lv' : List (Nat × Value)} {pc : Nat} {rest : List Value}
theorem ww_sub {lv0 : List (Nat × Value)} {st : List Value} (ks : List Nat) (hs : lv_pick lv0 ks = lv) (k : ww X w lv pc st) : ww X w lv0 pc st := fun H locs ls hP hD hS hl => k H locs ls hP hD hS (lv_sub hl ks hs)
theorem ww_at {pc' : Nat} {st : List Value} (h : pc = pc') (k : ww X w lv pc' st) : ww X w lv pc st := h ▸ k
theorem ww_iconst (hX : Fx X cc own nL fr lo cB cI) {n : Int} {v : Int32} (hd : decode cc pc = .ok (.iconst n, 1)) (hv : Int32.ofInt n = v) (k : ww X w lv (pc + 1) (.int v :: rest)) : ww X w lv pc rest :=
  fun H locs ls hP hD hS hl => lv_iconst hX.x hX.b hd hv (k H locs ls hP hD hS hl)
theorem ww_bipush (hX : Fx X cc own nL fr lo cB cI) {n : Int} {v : Int32} (hd : decode cc pc = .ok (.bipush n, 2)) (hv : (Int8.ofInt n).toInt32 = v) (k : ww X w lv (pc + 2) (.int v :: rest)) : ww X w lv pc rest :=
  fun H locs ls hP hD hS hl => lv_bipush hX.x hX.b hd hv (k H locs ls hP hD hS hl)
theorem ww_ldc (hX : Fx X cc own nL fr lo cB cI) {i : Nat} {v : Int32} (hc : Cond.constant own i v ∈ lw_all) (hd : decode cc pc = .ok (.ldc i, 2)) (k : ww X w lv (pc + 2) (.int v :: rest)) : ww X w lv pc rest :=
  fun H locs ls hP hD hS hl => lv_ldc hX.x hX.b hX.o (hX.ts _ hc) hd (k H locs ls hP hD hS hl)
theorem ww_iload_n (hX : Fx X cc own nL fr lo cB cI) {j : Fin 4} {x : Int32} (hd : decode cc pc = .ok (.iload_n j, 1)) (q : Nat) (hq : lv[q]? = some ((j : Nat), .int x)) (k : ww X w lv (pc + 1) (.int x :: rest)) : ww X w lv pc rest :=
  fun H locs ls hP hD hS hl => lv_iload_n hX.x hX.b hd rfl (lv_at hl q hq) (k H locs ls hP hD hS hl)
theorem ww_iload (hX : Fx X cc own nL fr lo cB cI) {i : Nat} {x : Int32} (hd : decode cc pc = .ok (.iload i, 2)) (q : Nat) (hq : lv[q]? = some (i, .int x)) (k : ww X w lv (pc + 2) (.int x :: rest)) : ww X w lv pc rest :=
  fun H locs ls hP hD hS hl => lv_iload hX.x hX.b hd (lv_at hl q hq) (k H locs ls hP hD hS hl)
theorem ww_aload_n (hX : Fx X cc own nL fr lo cB cI) {j : Fin 4} {x : Nat} (hd : decode cc pc = .ok (.aload_n j, 1)) (q : Nat) (hq : lv[q]? = some ((j : Nat), .ref x)) (k : ww X w lv (pc + 1) (.ref x :: rest)) : ww X w lv pc rest :=
  fun H locs ls hP hD hS hl => lv_aload_n hX.x hX.b hd rfl (lv_at hl q hq) (k H locs ls hP hD hS hl)
/-- the locals behind a store: picked out of the kit's list -/
abbrev ww_st (lv : List (Nat × Value)) (i : Nat) (v : Value) : List (Nat × Value) := (i, v) :: lv.filter (fun q => !(q.1 == i) && !(q.1 + 1 == i && q.2.category == 2))
theorem ww_istore_n (hX : Fx X cc own nL fr lo cB cI) {j : Fin 4} {x : Int32} (hd : decode cc pc = .ok (.istore_n j, 1)) (hn : (j : Nat) < nL) (ks : List Nat) (hk : lv_pick (ww_st lv (j : Nat) (.int x)) ks = lv') (k : ww X w lv' (pc + 1) rest) : ww X w lv pc (.int x :: rest) :=
  fun H locs ls hP hD hS hl => lv_istore_n hX.x hX.b hd rfl hl (by rw [hX.nl]; exact hn) rfl (fun ls' hl' => k H locs ls' hP hD hS (lv_sub hl' ks hk))
theorem ww_istore (hX : Fx X cc own nL fr lo cB cI) {i : Nat} {x : Int32} (hd : decode cc pc = .ok (.istore i, 2)) (hn : i < nL) (ks : List Nat) (hk : lv_pick (ww_st lv i (.int x)) ks = lv') (k : ww X w lv' (pc + 2) rest) : ww X w lv pc (.int x :: rest) :=
  fun H locs ls hP hD hS hl => lv_istore hX.x hX.b hd hl (by rw [hX.nl]; exact hn) rfl (fun ls' hl' => k H locs ls' hP hD hS (lv_sub hl' ks hk))
theorem ww_astore_n (hX : Fx X cc own nL fr lo cB cI) {j : Fin 4} {x : Nat} (hd : decode cc pc = .ok (.astore_n j, 1)) (hn : (j : Nat) < nL) (ks : List Nat) (hk : lv_pick (ww_st lv (j : Nat) (.ref x)) ks = lv') (k : ww X w lv' (pc + 1) rest) : ww X w lv pc (.ref x :: rest) :=
  fun H locs ls hP hD hS hl => lv_astore_n hX.x hX.b hd rfl hl (by rw [hX.nl]; exact hn) rfl (fun ls' hl' => k H locs ls' hP hD hS (lv_sub hl' ks hk))
theorem ww_iinc (hX : Fx X cc own nL fr lo cB cI) {i : Nat} {n : Int} {x v : Int32} (hd : decode cc pc = .ok (.iinc i n, 3)) (q : Nat) (hq : lv[q]? = some (i, .int x)) (hv : x + Int32.ofInt n = v) (hn : i < nL) (ks : List Nat) (hk : lv_pick (ww_st lv i (.int v)) ks = lv') (k : ww X w lv' (pc + 3) rest) : ww X w lv pc rest :=
  fun H locs ls hP hD hS hl => lv_iinc hX.x hX.b hd hl hq hv (by rw [hX.nl]; exact hn) rfl (fun ls' hl' => k H locs ls' hP hD hS (lv_sub hl' ks hk))
theorem ww_iadd (hX : Fx X cc own nL fr lo cB cI) {x y : Int32} (hd : decode cc pc = .ok (.iadd, 1)) (k : ww X w lv (pc + 1) (.int (x + y) :: rest)) : ww X w lv pc (.int y :: .int x :: rest) :=
  fun H locs ls hP hD hS hl => lv_iadd hX.x hX.b hd (k H locs ls hP hD hS hl)
theorem ww_isub (hX : Fx X cc own nL fr lo cB cI) {x y : Int32} (hd : decode cc pc = .ok (.isub, 1)) (k : ww X w lv (pc + 1) (.int (x - y) :: rest)) : ww X w lv pc (.int y :: .int x :: rest) :=
  fun H locs ls hP hD hS hl => lv_isub hX.x hX.b hd (k H locs ls hP hD hS hl)
theorem ww_imul (hX : Fx X cc own nL fr lo cB cI) {x y : Int32} (hd : decode cc pc = .ok (.imul, 1)) (k : ww X w lv (pc + 1) (.int (x * y) :: rest)) : ww X w lv pc (.int y :: .int x :: rest) :=
  fun H locs ls hP hD hS hl => lv_imul hX.x hX.b hd (k H locs ls hP hD hS hl)
theorem ww_idiv (hX : Fx X cc own nL fr lo cB cI) {x y : Int32} (hd : decode cc pc = .ok (.idiv, 1)) (hne : ¬ y = 0) (k : ww X w lv (pc + 1) (.int (x / y) :: rest)) : ww X w lv pc (.int y :: .int x :: rest) :=
  fun H locs ls hP hD hS hl => lv_idiv hX.x hX.b hd hne (k H locs ls hP hD hS hl)
theorem ww_irem (hX : Fx X cc own nL fr lo cB cI) {x y : Int32} (hd : decode cc pc = .ok (.irem, 1)) (hne : ¬ y = 0) (k : ww X w lv (pc + 1) (.int (x - x / y * y) :: rest)) : ww X w lv pc (.int y :: .int x :: rest) :=
  fun H locs ls hP hD hS hl => lv_irem hX.x hX.b hd hne (k H locs ls hP hD hS hl)
theorem ww_iand (hX : Fx X cc own nL fr lo cB cI) {x y : Int32} (hd : decode cc pc = .ok (.iand, 1)) (k : ww X w lv (pc + 1) (.int (x &&& y) :: rest)) : ww X w lv pc (.int y :: .int x :: rest) :=
  fun H locs ls hP hD hS hl => lv_iand hX.x hX.b hd (k H locs ls hP hD hS hl)
theorem ww_ior (hX : Fx X cc own nL fr lo cB cI) {x y : Int32} (hd : decode cc pc = .ok (.ior, 1)) (k : ww X w lv (pc + 1) (.int (x ||| y) :: rest)) : ww X w lv pc (.int y :: .int x :: rest) :=
  fun H locs ls hP hD hS hl => lv_ior hX.x hX.b hd (k H locs ls hP hD hS hl)
theorem ww_ixor (hX : Fx X cc own nL fr lo cB cI) {x y : Int32} (hd : decode cc pc = .ok (.ixor, 1)) (k : ww X w lv (pc + 1) (.int (x ^^^ y) :: rest)) : ww X w lv pc (.int y :: .int x :: rest) :=
  fun H locs ls hP hD hS hl => lv_ixor hX.x hX.b hd (k H locs ls hP hD hS hl)
theorem ww_ishl (hX : Fx X cc own nL fr lo cB cI) {x y : Int32} (hd : decode cc pc = .ok (.ishl, 1)) (k : ww X w lv (pc + 1) (.int (x <<< (y &&& 31)) :: rest)) : ww X w lv pc (.int y :: .int x :: rest) :=
  fun H locs ls hP hD hS hl => lv_ishl hX.x hX.b hd (k H locs ls hP hD hS hl)
theorem ww_ishr (hX : Fx X cc own nL fr lo cB cI) {x y : Int32} (hd : decode cc pc = .ok (.ishr, 1)) (k : ww X w lv (pc + 1) (.int (x >>> (y &&& 31)) :: rest)) : ww X w lv pc (.int y :: .int x :: rest) :=
  fun H locs ls hP hD hS hl => lv_ishr hX.x hX.b hd (k H locs ls hP hD hS hl)
theorem ww_i2b (hX : Fx X cc own nL fr lo cB cI) {x v : Int32} (hd : decode cc pc = .ok (.i2b, 1)) (hv : x.toInt8.toInt32 = v) (k : ww X w lv (pc + 1) (.int v :: rest)) : ww X w lv pc (.int x :: rest) :=
  fun H locs ls hP hD hS hl => lv_i2b hX.x hX.b hd hv (k H locs ls hP hD hS hl)
theorem ww_dup (hX : Fx X cc own nL fr lo cB cI) {va : Value} (hd : decode cc pc = .ok (.dup, 1)) (hva : va.category = 1) (k : ww X w lv (pc + 1) (va :: va :: rest)) : ww X w lv pc (va :: rest) :=
  fun H locs ls hP hD hS hl => lv_dup hX.x hX.b hd hva (k H locs ls hP hD hS hl)
theorem ww_dup2 (hX : Fx X cc own nL fr lo cB cI) {va vb : Value} (hd : decode cc pc = .ok (.dup2, 1)) (hva : va.category = 1) (hvb : vb.category = 1) (k : ww X w lv (pc + 1) (va :: vb :: va :: vb :: rest)) : ww X w lv pc (va :: vb :: rest) :=
  fun H locs ls hP hD hS hl => lv_dup2_11 hX.x hX.b hd hva hvb (k H locs ls hP hD hS hl)
theorem ww_goto (hX : Fx X cc own nL fr lo cB cI) {off : Int} {tgt : Nat} (hd : decode cc pc = .ok (.goto off, 3)) (ht : (pc : Int) + off = (tgt : Int)) (k : ww X w lv tgt rest) : ww X w lv pc rest :=
  fun H locs ls hP hD hS hl => lv_goto hX.x hX.b hd ht (k H locs ls hP hD hS hl)
theorem ww_if_eq (hX : Fx X cc own nL fr lo cB cI) {x : Int32} {off : Int} {tgt : Nat} (hd : decode cc pc = .ok (.ifCond .eq off, 3)) (ht : (pc : Int) + off = (tgt : Int)) (kt : x = 0 → ww X w lv tgt rest) (kf : ¬ x = 0 → ww X w lv (pc + 3) rest) : ww X w lv pc (.int x :: rest) :=
  fun H locs ls hP hD hS hl => lv_if_eq hX.x hX.b hd ht (fun h => kt h H locs ls hP hD hS hl) (fun h => kf h H locs ls hP hD hS hl)
theorem ww_if_ne (hX : Fx X cc own nL fr lo cB cI) {x : Int32} {off : Int} {tgt : Nat} (hd : decode cc pc = .ok (.ifCond .ne off, 3)) (ht : (pc : Int) + off = (tgt : Int)) (kt : ¬ x = 0 → ww X w lv tgt rest) (kf : x = 0 → ww X w lv (pc + 3) rest) : ww X w lv pc (.int x :: rest) :=
  fun H locs ls hP hD hS hl => lv_if_ne hX.x hX.b hd ht (fun h => kt h H locs ls hP hD hS hl) (fun h => kf h H locs ls hP hD hS hl)
theorem ww_if_lt (hX : Fx X cc own nL fr lo cB cI) {x : Int32} {off : Int} {tgt : Nat} (hd : decode cc pc = .ok (.ifCond .lt off, 3)) (ht : (pc : Int) + off = (tgt : Int)) (kt : x < 0 → ww X w lv tgt rest) (kf : ¬ x < 0 → ww X w lv (pc + 3) rest) : ww X w lv pc (.int x :: rest) :=
  fun H locs ls hP hD hS hl => lv_if_lt hX.x hX.b hd ht (fun h => kt h H locs ls hP hD hS hl) (fun h => kf h H locs ls hP hD hS hl)
theorem ww_if_ge (hX : Fx X cc own nL fr lo cB cI) {x : Int32} {off : Int} {tgt : Nat} (hd : decode cc pc = .ok (.ifCond .ge off, 3)) (ht : (pc : Int) + off = (tgt : Int)) (kt : 0 ≤ x → ww X w lv tgt rest) (kf : ¬ 0 ≤ x → ww X w lv (pc + 3) rest) : ww X w lv pc (.int x :: rest) :=
  fun H locs ls hP hD hS hl => lv_if_ge hX.x hX.b hd ht (fun h => kt h H locs ls hP hD hS hl) (fun h => kf h H locs ls hP hD hS hl)
theorem ww_if_gt (hX : Fx X cc own nL fr lo cB cI) {x : Int32} {off : Int} {tgt : Nat} (hd : decode cc pc = .ok (.ifCond .gt off, 3)) (ht : (pc : Int) + off = (tgt : Int)) (kt : 0 < x → ww X w lv tgt rest) (kf : ¬ 0 < x → ww X w lv (pc + 3) rest) : ww X w lv pc (.int x :: rest) :=
  fun H locs ls hP hD hS hl => lv_if_gt hX.x hX.b hd ht (fun h => kt h H locs ls hP hD hS hl) (fun h => kf h H locs ls hP hD hS hl)
theorem ww_if_le (hX : Fx X cc own nL fr lo cB cI) {x : Int32} {off : Int} {tgt : Nat} (hd : decode cc pc = .ok (.ifCond .le off, 3)) (ht : (pc : Int) + off = (tgt : Int)) (kt : x ≤ 0 → ww X w lv tgt rest) (kf : ¬ x ≤ 0 → ww X w lv (pc + 3) rest) : ww X w lv pc (.int x :: rest) :=
  fun H locs ls hP hD hS hl => lv_if_le hX.x hX.b hd ht (fun h => kt h H locs ls hP hD hS hl) (fun h => kf h H locs ls hP hD hS hl)
theorem ww_icmp_eq (hX : Fx X cc own nL fr lo cB cI) {x y : Int32} {off : Int} {tgt : Nat} (hd : decode cc pc = .ok (.if_icmp .eq off, 3)) (ht : (pc : Int) + off = (tgt : Int)) (kt : x = y → ww X w lv tgt rest) (kf : ¬ x = y → ww X w lv (pc + 3) rest) : ww X w lv pc (.int y :: .int x :: rest) :=
  fun H locs ls hP hD hS hl => lv_icmp_eq hX.x hX.b hd ht (fun h => kt h H locs ls hP hD hS hl) (fun h => kf h H locs ls hP hD hS hl)
theorem ww_icmp_ne (hX : Fx X cc own nL fr lo cB cI) {x y : Int32} {off : Int} {tgt : Nat} (hd : decode cc pc = .ok (.if_icmp .ne off, 3)) (ht : (pc : Int) + off = (tgt : Int)) (kt : ¬ x = y → ww X w lv tgt rest) (kf : x = y → ww X w lv (pc + 3) rest) : ww X w lv pc (.int y :: .int x :: rest) :=
  fun H locs ls hP hD hS hl => lv_icmp_ne hX.x hX.b hd ht (fun h => kt h H locs ls hP hD hS hl) (fun h => kf h H locs ls hP hD hS hl)
theorem ww_icmp_lt (hX : Fx X cc own nL fr lo cB cI) {x y : Int32} {off : Int} {tgt : Nat} (hd : decode cc pc = .ok (.if_icmp .lt off, 3)) (ht : (pc : Int) + off = (tgt : Int)) (kt : x < y → ww X w lv tgt rest) (kf : ¬ x < y → ww X w lv (pc + 3) rest) : ww X w lv pc (.int y :: .int x :: rest) :=
  fun H locs ls hP hD hS hl => lv_icmp_lt hX.x hX.b hd ht (fun h => kt h H locs ls hP hD hS hl) (fun h => kf h H locs ls hP hD hS hl)
theorem ww_icmp_ge (hX : Fx X cc own nL fr lo cB cI) {x y : Int32} {off : Int} {tgt : Nat} (hd : decode cc pc = .ok (.if_icmp .ge off, 3)) (ht : (pc : Int) + off = (tgt : Int)) (kt : y ≤ x → ww X w lv tgt rest) (kf : ¬ y ≤ x → ww X w lv (pc + 3) rest) : ww X w lv pc (.int y :: .int x :: rest) :=
  fun H locs ls hP hD hS hl => lv_icmp_ge hX.x hX.b hd ht (fun h => kt h H locs ls hP hD hS hl) (fun h => kf h H locs ls hP hD hS hl)
theorem ww_icmp_gt (hX : Fx X cc own nL fr lo cB cI) {x y : Int32} {off : Int} {tgt : Nat} (hd : decode cc pc = .ok (.if_icmp .gt off, 3)) (ht : (pc : Int) + off = (tgt : Int)) (kt : y < x → ww X w lv tgt rest) (kf : ¬ y < x → ww X w lv (pc + 3) rest) : ww X w lv pc (.int y :: .int x :: rest) :=
  fun H locs ls hP hD hS hl => lv_icmp_gt hX.x hX.b hd ht (fun h => kt h H locs ls hP hD hS hl) (fun h => kf h H locs ls hP hD hS hl)
theorem ww_icmp_le (hX : Fx X cc own nL fr lo cB cI) {x y : Int32} {off : Int} {tgt : Nat} (hd : decode cc pc = .ok (.if_icmp .le off, 3)) (ht : (pc : Int) + off = (tgt : Int)) (kt : x ≤ y → ww X w lv tgt rest) (kf : ¬ x ≤ y → ww X w lv (pc + 3) rest) : ww X w lv pc (.int y :: .int x :: rest) :=
  fun H locs ls hP hD hS hl => lv_icmp_le hX.x hX.b hd ht (fun h => kt h H locs ls hP hD hS hl) (fun h => kf h H locs ls hP hD hS hl)
end WWR
/-! numbers: rows over nI -/
def nA (g : Nat → Nat) : Nat → Int32 := fun j => nI (g j)
def bI (b : Bool) : Int32 := if b then 1 else 0
theorem bI_t : bI true = 1 := rfl
theorem bI_f : bI false = 0 := rfl
theorem bI_0 {b : Bool} : bI b = 0 ↔ b = false := by cases b <;> decide
theorem bI_1 {b : Bool} : bI b = 1 ↔ b = true := by cases b <;> decide
theorem bI_inj {a b : Bool} : bI a = bI b ↔ a = b := by cases a <;> cases b <;> decide
theorem nA_up (g : Nat → Nat) (i v : Nat) : upd (nA g) i (nI v) = nA (va_up g i v) := by
  funext j
  by_cases h : j = i
  · subst h; simp [upd, nA, va_up]
  · simp [upd, nA, va_up, h]
theorem nI_b {a : Nat} (h : a < 128) : (nI a).toInt8.toInt32 = nI a := by
  have : ∀ a, a < 128 → (nI a).toInt8.toInt32 = nI a := by decide +kernel
  exact this a h
theorem nI_nb {a : Nat} (h : a < 128) : vp_nar .byte (nI a) = nI a := (vp_nar_byte _).trans (nI_b h)
theorem nI_sub {a b : Nat} (h : b ≤ a) : nI a - nI b = nI (a - b) := pk_sub h
section WWN
variable {X : Cx} {cc : ByteArray} {own : String} {nL fr lo : Nat} {cB cI : ClassId} {w w' : va_W} {lv lv' : List (Nat × Value)} {pc : Nat} {rest : List Value} {a b : Nat}
theorem ww_iaddN (hX : Fx X cc own nL fr lo cB cI) (hd : decode cc pc = .ok (.iadd, 1)) (k : ww X w lv (pc + 1) (.int (nI (a + b)) :: rest)) : ww X w lv pc (.int (nI b) :: .int (nI a) :: rest) := ww_iadd hX hd (by rw [nI_add]; exact k)
theorem ww_imulN (hX : Fx X cc own nL fr lo cB cI) (hd : decode cc pc = .ok (.imul, 1)) (k : ww X w lv (pc + 1) (.int (nI (a * b)) :: rest)) : ww X w lv pc (.int (nI b) :: .int (nI a) :: rest) := ww_imul hX hd (by rw [pk_mul]; exact k)
theorem ww_isubN (hX : Fx X cc own nL fr lo cB cI) (h : b ≤ a) (hd : decode cc pc = .ok (.isub, 1)) (k : ww X w lv (pc + 1) (.int (nI (a - b)) :: rest)) : ww X w lv pc (.int (nI b) :: .int (nI a) :: rest) := ww_isub hX hd (by rw [nI_sub h]; exact k)
theorem ww_idivN (hX : Fx X cc own nL fr lo cB cI) (ha : a < 2 ^ 31) (h0 : 0 < b) (hb : b < 2 ^ 31) (hd : decode cc pc = .ok (.idiv, 1)) (k : ww X w lv (pc + 1) (.int (nI (a / b)) :: rest)) : ww X w lv pc (.int (nI b) :: .int (nI a) :: rest) := ww_idiv hX hd (nI_ne0 h0 hb) (by rw [pk_div ha h0 hb]; exact k)
theorem ww_iremN (hX : Fx X cc own nL fr lo cB cI) (ha : a < 2 ^ 31) (h0 : 0 < b) (hb : b < 2 ^ 31) (hd : decode cc pc = .ok (.irem, 1)) (k : ww X w lv (pc + 1) (.int (nI (a % b)) :: rest)) : ww X w lv pc (.int (nI b) :: .int (nI a) :: rest) := ww_irem hX hd (nI_ne0 h0 hb) (by rw [pk_rem ha h0 hb]; exact k)
theorem ww_i2bN (hX : Fx X cc own nL fr lo cB cI) (h : a < 128) (hd : decode cc pc = .ok (.i2b, 1)) (k : ww X w lv (pc + 1) (.int (nI a) :: rest)) : ww X w lv pc (.int (nI a) :: rest) := ww_i2b hX hd (nI_b h) k
theorem ww_iincN (hX : Fx X cc own nL fr lo cB cI) {i : Nat} (hd : decode cc pc = .ok (.iinc i 1, 3)) (q : Nat) (hq : lv[q]? = some (i, .int (nI a))) (hn : i < nL) (ks : List Nat) (hk : lv_pick (ww_st lv i (.int (nI (a + 1)))) ks = lv') (k : ww X w lv' (pc + 3) rest) : ww X w lv pc rest :=
  ww_iinc hX hd q hq (nI_1 a) hn ks hk k
theorem ww_if_eqN (hX : Fx X cc own nL fr lo cB cI) {off : Int} {tgt : Nat} (ha : a < 2 ^ 31) (hd : decode cc pc = .ok (.ifCond .eq off, 3)) (ht : (pc : Int) + off = (tgt : Int)) (kt : a = 0 → ww X w lv tgt rest) (kf : a ≠ 0 → ww X w lv (pc + 3) rest) : ww X w lv pc (.int (nI a) :: rest) :=
  ww_if_eq hX hd ht (fun h => kt ((nI_eq ha (by decide)).mp h)) (fun h => kf (fun q => h (by rw [q]; rfl)))
theorem ww_if_neN (hX : Fx X cc own nL fr lo cB cI) {off : Int} {tgt : Nat} (ha : a < 2 ^ 31) (hd : decode cc pc = .ok (.ifCond .ne off, 3)) (ht : (pc : Int) + off = (tgt : Int)) (kt : a ≠ 0 → ww X w lv tgt rest) (kf : a = 0 → ww X w lv (pc + 3) rest) : ww X w lv pc (.int (nI a) :: rest) :=
  ww_if_ne hX hd ht (fun h => kt (fun q => h (by rw [q]; rfl))) (fun h => kf ((nI_eq ha (by decide)).mp h))
theorem ww_if_ltN (hX : Fx X cc own nL fr lo cB cI) {off : Int} (ha : a < 2 ^ 31) (hd : decode cc pc = .ok (.ifCond .lt off, 3)) (tgt : Nat) (ht : (pc : Int) + off = (tgt : Int)) (kf : ww X w lv (pc + 3) rest) : ww X w lv pc (.int (nI a) :: rest) :=
  ww_if_lt (tgt := tgt) hX hd ht (fun h => absurd h (nI_pos ha)) (fun _ => kf)
theorem ww_if_leN (hX : Fx X cc own nL fr lo cB cI) {off : Int} {tgt : Nat} (ha : a < 2 ^ 31) (hd : decode cc pc = .ok (.ifCond .le off, 3)) (ht : (pc : Int) + off = (tgt : Int)) (kt : a = 0 → ww X w lv tgt rest) (kf : 0 < a → ww X w lv (pc + 3) rest) : ww X w lv pc (.int (nI a) :: rest) :=
  ww_if_le hX hd ht (fun h => kt (Nat.le_zero.mp ((nI_leI ha (by decide)).mp (show nI a ≤ nI 0 from h)))) (fun h => kf (Nat.pos_of_ne_zero (fun q => h (by rw [q]; decide))))
theorem ww_icmp_eqN (hX : Fx X cc own nL fr lo cB cI) {off : Int} {tgt : Nat} (ha : a < 2 ^ 31) (hb : b < 2 ^ 31) (hd : decode cc pc = .ok (.if_icmp .eq off, 3)) (ht : (pc : Int) + off = (tgt : Int)) (kt : a = b → ww X w lv tgt rest) (kf : a ≠ b → ww X w lv (pc + 3) rest) : ww X w lv pc (.int (nI b) :: .int (nI a) :: rest) :=
  ww_icmp_eq hX hd ht (fun h => kt ((nI_eq ha hb).mp h)) (fun h => kf (fun q => h (by rw [q])))
theorem ww_icmp_neN (hX : Fx X cc own nL fr lo cB cI) {off : Int} {tgt : Nat} (ha : a < 2 ^ 31) (hb : b < 2 ^ 31) (hd : decode cc pc = .ok (.if_icmp .ne off, 3)) (ht : (pc : Int) + off = (tgt : Int)) (kt : a ≠ b → ww X w lv tgt rest) (kf : a = b → ww X w lv (pc + 3) rest) : ww X w lv pc (.int (nI b) :: .int (nI a) :: rest) :=
  ww_icmp_ne hX hd ht (fun h => kt (fun q => h (by rw [q]))) (fun h => kf ((nI_eq ha hb).mp h))
theorem ww_icmp_ltN (hX : Fx X cc own nL fr lo cB cI) {off : Int} {tgt : Nat} (ha : a < 2 ^ 31) (hb : b < 2 ^ 31) (hd : decode cc pc = .ok (.if_icmp .lt off, 3)) (ht : (pc : Int) + off = (tgt : Int)) (kt : a < b → ww X w lv tgt rest) (kf : b ≤ a → ww X w lv (pc + 3) rest) : ww X w lv pc (.int (nI b) :: .int (nI a) :: rest) :=
  ww_icmp_lt hX hd ht (fun h => kt ((nI_ltI ha hb).mp h)) (fun h => kf (Nat.not_lt.mp (fun q => h ((nI_ltI ha hb).mpr q))))
theorem ww_icmp_geN (hX : Fx X cc own nL fr lo cB cI) {off : Int} {tgt : Nat} (ha : a < 2 ^ 31) (hb : b < 2 ^ 31) (hd : decode cc pc = .ok (.if_icmp .ge off, 3)) (ht : (pc : Int) + off = (tgt : Int)) (kt : b ≤ a → ww X w lv tgt rest) (kf : a < b → ww X w lv (pc + 3) rest) : ww X w lv pc (.int (nI b) :: .int (nI a) :: rest) :=
  ww_icmp_ge hX hd ht (fun h => kt ((nI_leI hb ha).mp h)) (fun h => kf (Nat.not_le.mp (fun q => h ((nI_leI hb ha).mpr q))))
theorem ww_icmp_gtN (hX : Fx X cc own nL fr lo cB cI) {off : Int} {tgt : Nat} (ha : a < 2 ^ 31) (hb : b < 2 ^ 31) (hd : decode cc pc = .ok (.if_icmp .gt off, 3)) (ht : (pc : Int) + off = (tgt : Int)) (kt : b < a → ww X w lv tgt rest) (kf : a ≤ b → ww X w lv (pc + 3) rest) : ww X w lv pc (.int (nI b) :: .int (nI a) :: rest) :=
  ww_icmp_gt hX hd ht (fun h => kt ((nI_ltI hb ha).mp h)) (fun h => kf (Nat.not_lt.mp (fun q => h ((nI_ltI hb ha).mpr q))))
theorem ww_icmp_leN (hX : Fx X cc own nL fr lo cB cI) {off : Int} {tgt : Nat} (ha : a < 2 ^ 31) (hb : b < 2 ^ 31) (hd : decode cc pc = .ok (.if_icmp .le off, 3)) (ht : (pc : Int) + off = (tgt : Int)) (kt : a ≤ b → ww X w lv tgt rest) (kf : b < a → ww X w lv (pc + 3) rest) : ww X w lv pc (.int (nI b) :: .int (nI a) :: rest) :=
  ww_icmp_le hX hd ht (fun h => kt ((nI_leI ha hb).mp h)) (fun h => kf (Nat.not_le.mp (fun q => h ((nI_leI ha hb).mpr q))))
theorem ww_if_eqB (hX : Fx X cc own nL fr lo cB cI) {t : Bool} {off : Int} {tgt : Nat} (hd : decode cc pc = .ok (.ifCond .eq off, 3)) (ht : (pc : Int) + off = (tgt : Int)) (kt : t = false → ww X w lv tgt rest) (kf : t = true → ww X w lv (pc + 3) rest) : ww X w lv pc (.int (bI t) :: rest) :=
  ww_if_eq hX hd ht (fun h => kt (bI_0.mp h)) (fun h => kf (by cases t; exact absurd rfl h; rfl))
theorem ww_if_neB (hX : Fx X cc own nL fr lo cB cI) {t : Bool} {off : Int} {tgt : Nat} (hd : decode cc pc = .ok (.ifCond .ne off, 3)) (ht : (pc : Int) + off = (tgt : Int)) (kt : t = true → ww X w lv tgt rest) (kf : t = false → ww X w lv (pc + 3) rest) : ww X w lv pc (.int (bI t) :: rest) :=
  ww_if_ne hX hd ht (fun h => kt (by cases t; exact absurd rfl h; rfl)) (fun h => kf (bI_0.mp h))
/-! fields and arrays -/
theorem ww_get (hX : Fx X cc own nL fr lo cB cI) {C : String} {T : u_T} {N ci idx : Nat} (hin : ∀ x ∈ u_ws C T N, x ∈ lw_all) (hc : vwCl[ci]? = some (C, T, N)) (q0 : Nat) {o : Nat} {fs : List Value} (he : w[q0]? = some (o, .inr (ci, fs))) (f : Nat) (hf : f < N) (hl : Cond.fieldLink own idx (T f).1 (T f).2.1 (T f).2.2.1 ∈ lw_all) {v : Value} (hv : fs[f]? = some v) (hd : decode cc pc = .ok (.getfield idx, 3)) (k : ww X w lv (pc + 3) (v :: rest)) : ww X w lv pc (.ref o :: rest) :=
  fun H locs ls hP hD hS h => va_get hX.x hX.b hX.ts hin hX.o hX.K hP q0 he hc f hf (hX.ts _ hl) (fun _ h9 => h9) hv hd (k H locs ls hP hD hS h)
theorem ww_put (hX : Fx X cc own nL fr lo cB cI) {C : String} {T : u_T} {N ci idx : Nat} (hin : ∀ x ∈ u_ws C T N, x ∈ lw_all) (ty0 : Nat → FieldType) (hty : ∀ k, k < N → parseFieldDescriptor (T k).2.2.1 = some (ty0 k)) (hnm : ∀ a, a < N → ∀ b, b < N → a ≠ b → (T a).2.1 ≠ (T b).2.1) (hc : vwCl[ci]? = some (C, T, N)) (q0 : Nat) {o : Nat} {fs : List Value} (he : w[q0]? = some (o, .inr (ci, fs))) (f : Nat) (hf : f < N) (hl : Cond.fieldLink own idx (T f).1 (T f).2.1 (T f).2.2.1 ∈ lw_all) (hfin : (T f).2.2.2 = false) {v : Value} (hn : narrow (ty0 f) v = v) (hfit : fits (ty0 f) v = true) (hlen : f < fs.length) (hw : w.set q0 (o, .inr (ci, fs.set f v)) = w') (hd : decode cc pc = .ok (.putfield idx, 3)) (k : ww X w' lv (pc + 3) rest) : ww X w lv pc (v :: .ref o :: rest) := by
  subst hw
  exact fun H locs ls hP hD hS h => va_put hX.x hX.b hX.ts hin ty0 hty hnm hX.o hX.K hP hD hS q0 he hc f hf (hX.ts _ hl) (fun _ h9 => h9) hfin (hty f hf) hn hfit hlen hd (fun H1 locs1 hP1 hD1 hS1 => k H1 locs1 ls hP1 hD1 hS1 h)
theorem ww_iald (hX : Fx X cc own nL fr lo cB cI) (q0 : Nat) {o n : Nat} {f : Nat → Int32} (he : w[q0]? = some (o, .inl (cI, n, .inl f))) (h : a < n) (hn : n < 2 ^ 31) (hd : decode cc pc = .ok (.iaload, 1)) (k : ww X w lv (pc + 1) (.int (f a) :: rest)) : ww X w lv pc (.int (nI a) :: .ref o :: rest) :=
  fun H locs ls hP hD hS hl => va_iald hX.x hX.b hX.K hP q0 1 he rfl (vp_in_nI h hn) hd (by rw [nI_clamp (by omega)]; exact k H locs ls hP hD hS hl)
theorem ww_bald (hX : Fx X cc own nL fr lo cB cI) (q0 : Nat) {o n : Nat} {f : Nat → Int32} (he : w[q0]? = some (o, .inl (cB, n, .inl f))) (h : a < n) (hn : n < 2 ^ 31) (hd : decode cc pc = .ok (.baload, 1)) (k : ww X w lv (pc + 1) (.int (f a) :: rest)) : ww X w lv pc (.int (nI a) :: .ref o :: rest) :=
  fun H locs ls hP hD hS hl => va_bald hX.x hX.b hX.K hP q0 0 he rfl (vp_in_nI h hn) hd (by rw [nI_clamp (by omega)]; exact k H locs ls hP hD hS hl)
theorem ww_ialdN (hX : Fx X cc own nL fr lo cB cI) (q0 : Nat) {o n : Nat} {g : Nat → Nat} (he : w[q0]? = some (o, .inl (cI, n, .inl (nA g)))) (h : a < n) (hn : n < 2 ^ 31) (hd : decode cc pc = .ok (.iaload, 1)) (k : ww X w lv (pc + 1) (.int (nI (g a)) :: rest)) : ww X w lv pc (.int (nI a) :: .ref o :: rest) := ww_iald hX q0 he h hn hd k
theorem ww_baldN (hX : Fx X cc own nL fr lo cB cI) (q0 : Nat) {o n : Nat} {g : Nat → Nat} (he : w[q0]? = some (o, .inl (cB, n, .inl (nA g)))) (h : a < n) (hn : n < 2 ^ 31) (hd : decode cc pc = .ok (.baload, 1)) (k : ww X w lv (pc + 1) (.int (nI (g a)) :: rest)) : ww X w lv pc (.int (nI a) :: .ref o :: rest) := ww_bald hX q0 he h hn hd k
theorem ww_iast (hX : Fx X cc own nL fr lo cB cI) (q0 : Nat) {o n : Nat} {f : Nat → Int32} {x : Int32} (he : w[q0]? = some (o, .inl (cI, n, .inl f))) (h : a < n) (hn : n < 2 ^ 31) (hw : w.set q0 (o, .inl (cI, n, .inl (va_up f a x))) = w') (hd : decode cc pc = .ok (.iastore, 1)) (k : ww X w' lv (pc + 1) rest) : ww X w lv pc (.int x :: .int (nI a) :: .ref o :: rest) := by
  subst hw
  refine fun H locs ls hP hD hS hl => va_iast hX.x hX.b hX.K hP hD hS q0 1 he rfl (vp_in_nI h hn) hd (fun H1 locs1 hP1 hD1 hS1 => ?_)
  rw [nI_clamp (by omega)] at hP1 hD1
  exact k H1 locs1 ls hP1 hD1 hS1 hl
theorem ww_iastN (hX : Fx X cc own nL fr lo cB cI) (q0 : Nat) {o n v : Nat} {g : Nat → Nat} (he : w[q0]? = some (o, .inl (cI, n, .inl (nA g)))) (h : a < n) (hn : n < 2 ^ 31) (hw : w.set q0 (o, .inl (cI, n, .inl (nA (va_up g a v)))) = w') (hd : decode cc pc = .ok (.iastore, 1)) (k : ww X w' lv (pc + 1) rest) : ww X w lv pc (.int (nI v) :: .int (nI a) :: .ref o :: rest) := by
  subst hw
  refine ww_iast hX q0 he h hn rfl hd ?_
  rw [show va_up (nA g) a (nI v) = nA (va_up g a v) from nA_up g a v]
  exact k
theorem ww_bastN (hX : Fx X cc own nL fr lo cB cI) (q0 : Nat) {o n v : Nat} {g : Nat → Nat} (he : w[q0]? = some (o, .inl (cB, n, .inl (nA g)))) (h : a < n) (hn : n < 2 ^ 31) (hv : v < 128) (hw : w.set q0 (o, .inl (cB, n, .inl (nA (va_up g a v)))) = w') (hd : decode cc pc = .ok (.bastore, 1)) (k : ww X w' lv (pc + 1) rest) : ww X w lv pc (.int (nI v) :: .int (nI a) :: .ref o :: rest) := by
  subst hw
  refine fun H locs ls hP hD hS hl => va_bast hX.x hX.b hX.K hP hD hS q0 0 he rfl (vp_in_nI h hn) hd (fun H1 locs1 hP1 hD1 hS1 => ?_)
  rw [nI_clamp (by omega), nI_nb hv, nA_up] at hP1 hD1
  exact k H1 locs1 ls hP1 hD1 hS1 hl
end WWN
end
section
/-! CONTRACTS: MI (an int or boolean answer), MV (none): arguments As, world w before; post: the answer and the world behind. Nothing is made. -/
def MI (l : Launch) (D : va_G) (cB cI : ClassId) (y : MethodName) (cc : ByteArray) (nL : Nat) (ret : Option FieldType) (fr lo : Nat) (As : List Value) (w : va_W) (post : Int32 → va_W → Prop) : Prop :=
  ∀ sz : Nat, Met l y (ws_ y cc nL ret) ({ frames := fr, cells := 0, slots := 0, locals := lo }) (va_Pc As (fun U => U.heap.size = sz ∧ va_P D vwCl w U.heap ∧ va_K D vwCl (ty2 cB cI) U ∧ va_D (fun _ => True) w)) (va_Qi post (fun w' t => va_P D vwCl w' t.heap ∧ va_K D vwCl (ty2 cB cI) t ∧ va_D (va_A w sz) w') (va_A w sz)) 0 0 (va_A w sz)
def MV (l : Launch) (D : va_G) (cB cI : ClassId) (y : MethodName) (cc : ByteArray) (nL : Nat) (fr lo : Nat) (As : List Value) (w : va_W) (post : va_W → Prop) : Prop :=
  ∀ sz : Nat, Met l y (ws_ y cc nL none) ({ frames := fr, cells := 0, slots := 0, locals := lo }) (va_Pc As (fun U => U.heap.size = sz ∧ va_P D vwCl w U.heap ∧ va_K D vwCl (ty2 cB cI) U ∧ va_D (fun _ => True) w)) (va_Qv post (fun w' t => va_P D vwCl w' t.heap ∧ va_K D vwCl (ty2 cB cI) t ∧ va_D (va_A w sz) w') (va_A w sz)) 0 0 (va_A w sz)
theorem MI.of {l : Launch} {D : va_G} {cB cI : ClassId} {y : MethodName} {cc : ByteArray} {nL : Nat} {ty : FieldType} {fr lo : Nat} {As : List Value} {w : va_W} {post : Int32 → va_W → Prop} (hy : plainName y.cls = true) (hA : (lg_sl As).length ≤ nL)
    (body : ∀ X : Cx, cx_l X = l → cx_D X = D → Fx X cc y.cls nL fr lo cB cI → (∀ (r : Int32) (w' : va_W) (lv : List (Nat × Value)) (pc : Nat), narrow ty (.int r) = .int r → post r w' → decode cc pc = .ok (.ireturn, 1) → ww X w' lv pc [.int r]) → ww X w (lv_args 0 As) 0 []) : MI l D cB cI y cc nL (some ty) fr lo As w post := by
  intro sz
  refine Met.ofW (cc := cc) (maxL := nL) (ret := some ty) hy rfl ?_
  intro p e s m args below meth c s₁ B hml hv
  obtain ⟨rfl, hsz, hP, hK, hD0⟩ := hv
  subst hsz
  have hts := atoms_spec (ws := ws_ y cc nL (some ty)) B.pre
  have hts : ∀ w ∈ lw_all, w.before As.toArray s = true := fun w h => hts w (List.mem_cons_of_mem _ h)
  have hown : s.vm.findClass y.cls = some m.cls := findClass_of_methodNamed B.named
  have hD := hD0.self (sz := s.heap.size)
  have h := body (p, l, e, ({ frames := fr, cells := 0, slots := 0, locals := lo } : Room), s, m, As.toArray, below, meth, c, D, va_A w s.heap.size, nL, 0, 0, MQ below (va_Qi post (fun w' t => va_P D vwCl w' t.heap ∧ va_K D vwCl (ty2 cB cI) t ∧ va_D (va_A w s.heap.size) w') (va_A w s.heap.size)) As.toArray s 0 0 (va_A w s.heap.size)) rfl rfl
    ⟨B.exec, B.bytes, ⟨hml, rfl⟩, hown, hts, hK, ⟨Nat.le_refl _, Nat.le_refl _, Nat.le_refl _, Nat.le_refl _⟩, fun q h => Or.inr h⟩
    (fun r w' lv pc hn hp hd H locs ls hP' hD' hS' hl' => W.zret (v := r) B.exec B.bytes B.returns hn (fun t ht hW => ⟨⟨r, w', rfl, hp, by rw [ht]; exact hP', va_K.moved hW.alike hK, hD'⟩, hS'.F ht⟩) hS'.2.2 hd (hlocks := B.notSynchronized))
  have hl := lv_entry As (n := nL) hA
  rw [lg_entry_eq]
  exact h s.heap [] _ hP hD va_S.rf hl
theorem MV.of {l : Launch} {D : va_G} {cB cI : ClassId} {y : MethodName} {cc : ByteArray} {nL : Nat} {fr lo : Nat} {As : List Value} {w : va_W} {post : va_W → Prop} (hy : plainName y.cls = true) (hA : (lg_sl As).length ≤ nL)
    (body : ∀ X : Cx, cx_l X = l → cx_D X = D → Fx X cc y.cls nL fr lo cB cI → (∀ (w' : va_W) (lv : List (Nat × Value)) (pc : Nat), post w' → decode cc pc = .ok (.return_, 1) → ww X w' lv pc []) → ww X w (lv_args 0 As) 0 []) : MV l D cB cI y cc nL fr lo As w post := by
  intro sz
  refine Met.ofW (cc := cc) (maxL := nL) (ret := none) hy rfl ?_
  intro p e s m args below meth c s₁ B hml hv
  obtain ⟨rfl, hsz, hP, hK, hD0⟩ := hv
  subst hsz
  have hts := atoms_spec (ws := ws_ y cc nL none) B.pre
  have hts : ∀ w ∈ lw_all, w.before As.toArray s = true := fun w h => hts w (List.mem_cons_of_mem _ h)
  have hown : s.vm.findClass y.cls = some m.cls := findClass_of_methodNamed B.named
  have hD := hD0.self (sz := s.heap.size)
  have h := body (p, l, e, ({ frames := fr, cells := 0, slots := 0, locals := lo } : Room), s, m, As.toArray, below, meth, c, D, va_A w s.heap.size, nL, 0, 0, MQ below (va_Qv post (fun w' t => va_P D vwCl w' t.heap ∧ va_K D vwCl (ty2 cB cI) t ∧ va_D (va_A w s.heap.size) w') (va_A w s.heap.size)) As.toArray s 0 0 (va_A w s.heap.size)) rfl rfl
    ⟨B.exec, B.bytes, ⟨hml, rfl⟩, hown, hts, hK, ⟨Nat.le_refl _, Nat.le_refl _, Nat.le_refl _, Nat.le_refl _⟩, fun q h => Or.inr h⟩
    (fun w' lv pc hp hd H locs ls hP' hD' hS' hl' => W.vret B.exec B.bytes B.returns (fun t ht hW => ⟨⟨w', rfl, hp, by rw [ht]; exact hP', va_K.moved hW.alike hK, hD'⟩, hS'.F ht⟩) hS'.2.2 hd (hlocks := B.notSynchronized))
  have hl := lv_entry As (n := nL) hA
  rw [lg_entry_eq]
  exact h s.heap [] _ hP hD va_S.rf hl
theorem MI.weak {l : Launch} {D : va_G} {cB cI : ClassId} {y : MethodName} {cc : ByteArray} {nL : Nat} {ty : FieldType} {fr lo : Nat} {As : List Value} {w : va_W} {post post' : Int32 → va_W → Prop} (h : ∀ r w', post r w' → post' r w') (hM : MI l D cB cI y cc nL (some ty) fr lo As w post) : MI l D cB cI y cc nL (some ty) fr lo As w post' := by
  intro sz p e ha hc hk s m args below hf happ hpre htr
  obtain ⟨k, o, h1, h2, h3, ⟨⟨r, u, hr, hp, hB⟩, hF⟩, h4⟩ := hM sz p e ha hc hk s m args below hf happ hpre htr
  exact ⟨k, o, h1, h2, h3, ⟨⟨r, u, hr, h _ _ hp, hB⟩, hF⟩, h4⟩
section WWC
variable {X : Cx} {cc : ByteArray} {own : String} {nL fr lo : Nat} {cB cI : ClassId} {w : va_W} {lv : List (Nat × Value)} {pc : Nat} {st rest : List Value} {y : MethodName} {bytes : ByteArray} {mL fr' lo' idx n h0 : Nat} {ty : FieldType} {C : String} {As : List Value}
theorem ww_free (hX : Fx X cc own nL fr lo cB cI) {H : Heap} {locs : List Loc} (hD : va_D (cx_A X) w) (hS : va_S (cx_A X) (cx_s X).heap H locs) : ∀ q, va_A w H.size q → cx_A X q := by
  intro q h
  rcases h with ⟨k, e, h⟩ | h
  · exact hD.2 k (q, e) h
  · exact hX.A q (Nat.le_trans hS.1 h)
abbrev ww_nm (y : MethodName) (C : String) (n : Nat) : Prop := y.cls = C ∧ y.cls ≠ "java/lang/invoke/MethodHandle" ∧ y.cls ≠ "java/lang/invoke/VarHandle" ∧ (parseMethodDescriptor y.desc).map (fun d => d.parameters.length) = some n
/-- a call through the object: an int or boolean answer -/
theorem ww_callI (hX : Fx X cc own nL fr lo cB cI) {post : Int32 → va_W → Prop} (hM : MI (cx_l X) (cx_D X) cB cI y bytes mL (some ty) fr' lo' (.ref h0 :: As) w post) (hG : GoodIn lw_all (wsV own idx C y (ws_ y bytes mL (some ty)))) (hy : ww_nm y C n) (hn : As.length = n) (hR : fr' + 1 ≤ fr ∧ 8 + (mL + 11) + lo' ≤ lo)
    (q0 ci : Nat) {fs : List Value} {T : u_T} {N : Nat} (hc : vwCl[ci]? = some (C, T, N)) (he : w[q0]? = some (h0, .inr (ci, fs))) (hst : st = As.reverse ++ .ref h0 :: rest) (hro : (rest.map fun v => v.category).sum ≤ 8) (hd : decode cc pc = .ok (.invokevirtual idx, 3))
    (k : ∀ (r : Int32) (w' : va_W), post r w' → ww X w' lv (pc + 3) (.int r :: rest)) : ww X w lv pc st := by
  intro H locs ls hP hD hS hl
  have hF := ww_free hX hD hS
  obtain ⟨r1, r2, r3, r4⟩ := hX.R
  refine va_calli (va_runV (As := As) (rest := rest) ⟨hX.x, hX.b, hX.ml, hX.o, hX.ts⟩ (hM H.size) (cwV n hX.ts hG rfl rfl rfl hy ⟨Nat.le_trans hR.1 r3, Nat.le_trans hR.2 r4⟩) ⟨fun a U g mk q => by obtain ⟨q0, q1, qP, qK, qD⟩ := q; exact ⟨q0, q1, qP, va_K.moved (u := U) (U := U.calling g mk a) (Vm.Alike.refl U.vm) qK, qD⟩, va_recv hX.K hP hc he, fun U hU hW => ⟨rfl, by rw [hU], by rw [hU]; exact hP, va_K.moved hW.alike hX.K, hD.weaken (fun _ _ _ _ => trivial)⟩⟩ rfl hn hl.1 hst (lv_room hro) hd ⟨r1, r2⟩) hS (fun q _ h => hF q h) hF (fun r u t H1 locs1 ht hvm hw1 hB hz1 hk1 hS1 => ?_)
  obtain ⟨hP1, hK1, hD1⟩ := hB
  rw [ht] at hP1
  exact k r u hw1 H1 locs1 ls hP1 (hD1.weaken (fun _ _ _ h => hF _ h)) hS1 hl
theorem ww_callV (hX : Fx X cc own nL fr lo cB cI) {post : va_W → Prop} (hM : MV (cx_l X) (cx_D X) cB cI y bytes mL fr' lo' (.ref h0 :: As) w post) (hG : GoodIn lw_all (wsV own idx C y (ws_ y bytes mL none))) (hy : ww_nm y C n) (hn : As.length = n) (hR : fr' + 1 ≤ fr ∧ 8 + (mL + 11) + lo' ≤ lo)
    (q0 ci : Nat) {fs : List Value} {T : u_T} {N : Nat} (hc : vwCl[ci]? = some (C, T, N)) (he : w[q0]? = some (h0, .inr (ci, fs))) (hst : st = As.reverse ++ .ref h0 :: rest) (hro : (rest.map fun v => v.category).sum ≤ 8) (hd : decode cc pc = .ok (.invokevirtual idx, 3))
    (k : ∀ (w' : va_W), post w' → ww X w' lv (pc + 3) rest) : ww X w lv pc st := by
  intro H locs ls hP hD hS hl
  have hF := ww_free hX hD hS
  obtain ⟨r1, r2, r3, r4⟩ := hX.R
  refine va_callv (va_runV (As := As) (rest := rest) ⟨hX.x, hX.b, hX.ml, hX.o, hX.ts⟩ (hM H.size) (cwV n hX.ts hG rfl rfl rfl hy ⟨Nat.le_trans hR.1 r3, Nat.le_trans hR.2 r4⟩) ⟨fun a U g mk q => by obtain ⟨q0, q1, qP, qK, qD⟩ := q; exact ⟨q0, q1, qP, va_K.moved (u := U) (U := U.calling g mk a) (Vm.Alike.refl U.vm) qK, qD⟩, va_recv hX.K hP hc he, fun U hU hW => ⟨rfl, by rw [hU], by rw [hU]; exact hP, va_K.moved hW.alike hX.K, hD.weaken (fun _ _ _ _ => trivial)⟩⟩ rfl hn hl.1 hst (lv_room hro) hd ⟨r1, r2⟩) hS (fun q _ h => hF q h) hF (fun u t H1 locs1 ht hvm hw1 hB hz1 hk1 hS1 => ?_)
  obtain ⟨hP1, hK1, hD1⟩ := hB
  rw [ht] at hP1
  exact k u hw1 H1 locs1 ls hP1 (hD1.weaken (fun _ _ _ h => hF _ h)) hS1 hl
/-- a static call -/
theorem ww_callS (hX : Fx X cc own nL fr lo cB cI) {post : Int32 → va_W → Prop} (hM : MI (cx_l X) (cx_D X) cB cI y bytes mL (some ty) fr' lo' As w post) (hG : GoodIn lw_all (va_wsS own idx y (ws_ y bytes mL (some ty)))) (hy : ww_nm y C n) (hn : As.length = n) (hR : fr' + 1 ≤ fr ∧ 8 + (mL + 11) + lo' ≤ lo)
    (hst : st = As.reverse ++ rest) (hro : (rest.map fun v => v.category).sum ≤ 8) (hd : decode cc pc = .ok (.invokestatic idx, 3))
    (k : ∀ (r : Int32) (w' : va_W), post r w' → ww X w' lv (pc + 3) (.int r :: rest)) : ww X w lv pc st := by
  intro H locs ls hP hD hS hl
  have hF := ww_free hX hD hS
  obtain ⟨r1, r2, r3, r4⟩ := hX.R
  refine va_calli (va_runS (As := As) (rest := rest) ⟨hX.x, hX.b, hX.ml, hX.o, hX.ts⟩ (hM H.size) (va_cwS n hX.ts hG rfl rfl rfl hy.2 ⟨Nat.le_trans hR.1 r3, Nat.le_trans hR.2 r4⟩) ⟨fun a U g mk q => by obtain ⟨q0, q1, qP, qK, qD⟩ := q; exact ⟨q0, q1, qP, va_K.moved (u := U) (U := U.calling g mk a) (Vm.Alike.refl U.vm) qK, qD⟩, fun U hU hW => ⟨rfl, by rw [hU], by rw [hU]; exact hP, va_K.moved hW.alike hX.K, hD.weaken (fun _ _ _ _ => trivial)⟩⟩ rfl hn hl.1 hst (lv_room hro) hd ⟨r1, r2⟩) hS (fun q _ h => hF q h) hF (fun r u t H1 locs1 ht hvm hw1 hB hz1 hk1 hS1 => ?_)
  obtain ⟨hP1, hK1, hD1⟩ := hB
  rw [ht] at hP1
  exact k r u hw1 H1 locs1 ls hP1 (hD1.weaken (fun _ _ _ h => hF _ h)) hS1 hl
end WWC
end
section
/-! THE WORLDS. A program P: sizes, kinds, numbers, beginnings of variables and of accumulators -/
abbrev Pg := (Nat → Nat) × (Nat → Nat) × (Nat → Int32) × (Nat → Int32) × (Nat → Int32)
abbrev pS (P : Pg) : Nat → Nat := P.1
abbrev pK (P : Pg) : Nat → Nat := P.2.1
abbrev pN (P : Pg) : Nat → Int32 := P.2.2.1
abbrev pV (P : Pg) : Nat → Int32 := P.2.2.2.1
abbrev pA (P : Pg) : Nat → Int32 := P.2.2.2.2
/-- the reference's beginnings: variables, then accumulators -/
def pB (P : Pg) : Nat → Int32 := fun i => if i < 3 then pV P i else pA P (i - 3)
def xW (ad : Nat → Nat) (cB cI : ClassId) (P : Pg) (wy : Nat → Nat) (pl : Nat → Nat) (ac : Nat → Int32) (vr : Nat → Int32) (sl : Nat → Nat) (gd : Nat → Nat) (lk : Bool) (fx : Nat) (fv : Int32) (sx : Nat) (sw : Int32) (fo : Bool) (cn : Nat) (qa : Nat → Int32) (qb : Nat → Int32) (qc : Nat → Int32) (qd : Nat → Int32) : va_W :=
  [(ad 0, .inr (0, [.ref (ad 1), .ref (ad 2), .ref (ad 3), .ref (ad 4), .ref (ad 5), .ref (ad 6), .ref (ad 7), .ref (ad 8), .ref (ad 9), .ref (ad 10), .ref (ad 11), .int (bI lk), .int (nI fx), .int fv, .int (nI sx), .int sw, .int (bI fo), .int (nI cn), .ref (ad 12), .ref (ad 13), .ref (ad 14), .ref (ad 15)])), (ad 1, .inl (cB, 3, .inl (nA (pS P)))), (ad 2, .inl (cB, 12, .inl (nA (pK P)))), (ad 3, .inl (cI, 12, .inl (pN P))), (ad 4, .inl (cI, 3, .inl (pV P))), (ad 5, .inl (cI, 3, .inl (pA P))), (ad 6, .inl (cI, 125, .inl (nA wy))), (ad 7, .inl (cB, 39, .inl (nA pl))), (ad 8, .inl (cI, 39, .inl ac)), (ad 9, .inl (cI, 39, .inl vr)), (ad 10, .inl (cB, 13, .inl (nA sl))), (ad 11, .inl (cB, 13, .inl (nA gd))), (ad 12, .inl (cI, 3, .inl qa)), (ad 13, .inl (cI, 3, .inl qb)), (ad 14, .inl (cI, 3, .inl qc)), (ad 15, .inl (cI, 3, .inl qd))]
def mW (ad : Nat → Nat) (cI : ClassId) (P : Pg) (tn : Nat) (tu : Nat → Nat) (st : Nat → Nat) (va : Nat → Int32) (pt : Nat → Nat) (ho : Nat → Int32) : va_W :=
  [(ad 0, .inr (1, [.ref (ad 1), .ref (ad 2), .ref (ad 3), .ref (ad 4), .int (nI tn), .ref (ad 5), .ref (ad 6), .ref (ad 7), .ref (ad 8), .ref (ad 9)])), (ad 1, .inl (cI, 3, .inl (nA (pS P)))), (ad 2, .inl (cI, 12, .inl (nA (pK P)))), (ad 3, .inl (cI, 12, .inl (pN P))), (ad 4, .inl (cI, 6, .inl (pB P))), (ad 5, .inl (cI, 12, .inl (nA tu))), (ad 6, .inl (cI, 12, .inl (nA st))), (ad 7, .inl (cI, 6, .inl va)), (ad 8, .inl (cI, 3, .inl (nA pt))), (ad 9, .inl (cI, 2, .inl ho))]
section WX0
variable {X : Cx} {cc : ByteArray} {nL fr lo : Nat} {cB cI : ClassId} {lv : List (Nat × Value)} {pc : Nat} {rest : List Value} {a v : Nat} {x : Int32} {ad : Nat → Nat} {P : Pg} {wy : Nat → Nat} {pl : Nat → Nat} {ac : Nat → Int32} {vr : Nat → Int32} {sl : Nat → Nat} {gd : Nat → Nat} {lk : Bool} {fx : Nat} {fv : Int32} {sx : Nat} {sw : Int32} {fo : Bool} {cn : Nat} {qa : Nat → Int32} {qb : Nat → Int32} {qc : Nat → Int32} {qd : Nat → Int32}
theorem xg_sizes (hX : Fx X cc RX0 nL fr lo cB cI) (hd : decode cc pc = .ok (.getfield 7, 3)) (k : ww X (xW ad cB cI P wy pl ac vr sl gd lk fx fv sx sw fo cn qa qb qc qd) lv (pc + 3) (.ref (ad 1) :: rest)) : ww X (xW ad cB cI P wy pl ac vr sl gd lk fx fv sx sw fo cn qa qb qc qd) lv pc (.ref (ad 0) :: rest) :=
  ww_get hX in_X0 rfl 0 rfl 0 (by decide) q31 rfl hd k
theorem xg_kinds (hX : Fx X cc RX0 nL fr lo cB cI) (hd : decode cc pc = .ok (.getfield 13, 3)) (k : ww X (xW ad cB cI P wy pl ac vr sl gd lk fx fv sx sw fo cn qa qb qc qd) lv (pc + 3) (.ref (ad 2) :: rest)) : ww X (xW ad cB cI P wy pl ac vr sl gd lk fx fv sx sw fo cn qa qb qc qd) lv pc (.ref (ad 0) :: rest) :=
  ww_get hX in_X0 rfl 0 rfl 1 (by decide) q32 rfl hd k
theorem xg_numbers (hX : Fx X cc RX0 nL fr lo cB cI) (hd : decode cc pc = .ok (.getfield 16, 3)) (k : ww X (xW ad cB cI P wy pl ac vr sl gd lk fx fv sx sw fo cn qa qb qc qd) lv (pc + 3) (.ref (ad 3) :: rest)) : ww X (xW ad cB cI P wy pl ac vr sl gd lk fx fv sx sw fo cn qa qb qc qd) lv pc (.ref (ad 0) :: rest) :=
  ww_get hX in_X0 rfl 0 rfl 2 (by decide) q33 rfl hd k
theorem xg_startV (hX : Fx X cc RX0 nL fr lo cB cI) (hd : decode cc pc = .ok (.getfield 20, 3)) (k : ww X (xW ad cB cI P wy pl ac vr sl gd lk fx fv sx sw fo cn qa qb qc qd) lv (pc + 3) (.ref (ad 4) :: rest)) : ww X (xW ad cB cI P wy pl ac vr sl gd lk fx fv sx sw fo cn qa qb qc qd) lv pc (.ref (ad 0) :: rest) :=
  ww_get hX in_X0 rfl 0 rfl 3 (by decide) q34 rfl hd k
theorem xg_startA (hX : Fx X cc RX0 nL fr lo cB cI) (hd : decode cc pc = .ok (.getfield 23, 3)) (k : ww X (xW ad cB cI P wy pl ac vr sl gd lk fx fv sx sw fo cn qa qb qc qd) lv (pc + 3) (.ref (ad 5) :: rest)) : ww X (xW ad cB cI P wy pl ac vr sl gd lk fx fv sx sw fo cn qa qb qc qd) lv pc (.ref (ad 0) :: rest) :=
  ww_get hX in_X0 rfl 0 rfl 4 (by decide) q35 rfl hd k
theorem xg_ways (hX : Fx X cc RX0 nL fr lo cB cI) (hd : decode cc pc = .ok (.getfield 26, 3)) (k : ww X (xW ad cB cI P wy pl ac vr sl gd lk fx fv sx sw fo cn qa qb qc qd) lv (pc + 3) (.ref (ad 6) :: rest)) : ww X (xW ad cB cI P wy pl ac vr sl gd lk fx fv sx sw fo cn qa qb qc qd) lv pc (.ref (ad 0) :: rest) :=
  ww_get hX in_X0 rfl 0 rfl 5 (by decide) q36 rfl hd k
theorem xg_place (hX : Fx X cc RX0 nL fr lo cB cI) (hd : decode cc pc = .ok (.getfield 29, 3)) (k : ww X (xW ad cB cI P wy pl ac vr sl gd lk fx fv sx sw fo cn qa qb qc qd) lv (pc + 3) (.ref (ad 7) :: rest)) : ww X (xW ad cB cI P wy pl ac vr sl gd lk fx fv sx sw fo cn qa qb qc qd) lv pc (.ref (ad 0) :: rest) :=
  ww_get hX in_X0 rfl 0 rfl 6 (by decide) q37 rfl hd k
theorem xg_accs (hX : Fx X cc RX0 nL fr lo cB cI) (hd : decode cc pc = .ok (.getfield 32, 3)) (k : ww X (xW ad cB cI P wy pl ac vr sl gd lk fx fv sx sw fo cn qa qb qc qd) lv (pc + 3) (.ref (ad 8) :: rest)) : ww X (xW ad cB cI P wy pl ac vr sl gd lk fx fv sx sw fo cn qa qb qc qd) lv pc (.ref (ad 0) :: rest) :=
  ww_get hX in_X0 rfl 0 rfl 7 (by decide) q38 rfl hd k
theorem xg_vars (hX : Fx X cc RX0 nL fr lo cB cI) (hd : decode cc pc = .ok (.getfield 35, 3)) (k : ww X (xW ad cB cI P wy pl ac vr sl gd lk fx fv sx sw fo cn qa qb qc qd) lv (pc + 3) (.ref (ad 9) :: rest)) : ww X (xW ad cB cI P wy pl ac vr sl gd lk fx fv sx sw fo cn qa qb qc qd) lv pc (.ref (ad 0) :: rest) :=
  ww_get hX in_X0 rfl 0 rfl 8 (by decide) q39 rfl hd k
theorem xg_sleeping (hX : Fx X cc RX0 nL fr lo cB cI) (hd : decode cc pc = .ok (.getfield 38, 3)) (k : ww X (xW ad cB cI P wy pl ac vr sl gd lk fx fv sx sw fo cn qa qb qc qd) lv (pc + 3) (.ref (ad 10) :: rest)) : ww X (xW ad cB cI P wy pl ac vr sl gd lk fx fv sx sw fo cn qa qb qc qd) lv pc (.ref (ad 0) :: rest) :=
  ww_get hX in_X0 rfl 0 rfl 9 (by decide) q40 rfl hd k
theorem xg_hadTurn (hX : Fx X cc RX0 nL fr lo cB cI) (hd : decode cc pc = .ok (.getfield 41, 3)) (k : ww X (xW ad cB cI P wy pl ac vr sl gd lk fx fv sx sw fo cn qa qb qc qd) lv (pc + 3) (.ref (ad 11) :: rest)) : ww X (xW ad cB cI P wy pl ac vr sl gd lk fx fv sx sw fo cn qa qb qc qd) lv pc (.ref (ad 0) :: rest) :=
  ww_get hX in_X0 rfl 0 rfl 10 (by decide) q41 rfl hd k
theorem xg_looking (hX : Fx X cc RX0 nL fr lo cB cI) (hd : decode cc pc = .ok (.getfield 88, 3)) (k : ww X (xW ad cB cI P wy pl ac vr sl gd lk fx fv sx sw fo cn qa qb qc qd) lv (pc + 3) (.int (bI lk) :: rest)) : ww X (xW ad cB cI P wy pl ac vr sl gd lk fx fv sx sw fo cn qa qb qc qd) lv pc (.ref (ad 0) :: rest) :=
  ww_get hX in_X0 rfl 0 rfl 11 (by decide) q42 rfl hd k
theorem xp_looking (hX : Fx X cc RX0 nL fr lo cB cI) {z : Bool} (hd : decode cc pc = .ok (.putfield 88, 3)) (k : ww X (xW ad cB cI P wy pl ac vr sl gd z fx fv sx sw fo cn qa qb qc qd) lv (pc + 3) rest) : ww X (xW ad cB cI P wy pl ac vr sl gd lk fx fv sx sw fo cn qa qb qc qd) lv pc (.int (bI z) :: .ref (ad 0) :: rest) :=
  ww_put (w' := xW ad cB cI P wy pl ac vr sl gd z fx fv sx sw fo cn qa qb qc qd) hX in_X0 tyX0 tyX0_ok nmX0 rfl 0 rfl 11 (by decide) q42 rfl (by cases z <;> rfl) (by cases z <;> rfl) (Nat.le_of_ble_eq_true rfl) rfl hd k
theorem xg_firstX (hX : Fx X cc RX0 nL fr lo cB cI) (hd : decode cc pc = .ok (.getfield 113, 3)) (k : ww X (xW ad cB cI P wy pl ac vr sl gd lk fx fv sx sw fo cn qa qb qc qd) lv (pc + 3) (.int (nI fx) :: rest)) : ww X (xW ad cB cI P wy pl ac vr sl gd lk fx fv sx sw fo cn qa qb qc qd) lv pc (.ref (ad 0) :: rest) :=
  ww_get hX in_X0 rfl 0 rfl 12 (by decide) q43 rfl hd k
theorem xp_firstX (hX : Fx X cc RX0 nL fr lo cB cI) {z : Nat} (hd : decode cc pc = .ok (.putfield 113, 3)) (k : ww X (xW ad cB cI P wy pl ac vr sl gd lk z fv sx sw fo cn qa qb qc qd) lv (pc + 3) rest) : ww X (xW ad cB cI P wy pl ac vr sl gd lk fx fv sx sw fo cn qa qb qc qd) lv pc (.int (nI z) :: .ref (ad 0) :: rest) :=
  ww_put (w' := xW ad cB cI P wy pl ac vr sl gd lk z fv sx sw fo cn qa qb qc qd) hX in_X0 tyX0 tyX0_ok nmX0 rfl 0 rfl 12 (by decide) q43 rfl (rfl) (rfl) (Nat.le_of_ble_eq_true rfl) rfl hd k
theorem xg_firstV (hX : Fx X cc RX0 nL fr lo cB cI) (hd : decode cc pc = .ok (.getfield 116, 3)) (k : ww X (xW ad cB cI P wy pl ac vr sl gd lk fx fv sx sw fo cn qa qb qc qd) lv (pc + 3) (.int fv :: rest)) : ww X (xW ad cB cI P wy pl ac vr sl gd lk fx fv sx sw fo cn qa qb qc qd) lv pc (.ref (ad 0) :: rest) :=
  ww_get hX in_X0 rfl 0 rfl 13 (by decide) q44 rfl hd k
theorem xp_firstV (hX : Fx X cc RX0 nL fr lo cB cI) {z : Int32} (hd : decode cc pc = .ok (.putfield 116, 3)) (k : ww X (xW ad cB cI P wy pl ac vr sl gd lk fx z sx sw fo cn qa qb qc qd) lv (pc + 3) rest) : ww X (xW ad cB cI P wy pl ac vr sl gd lk fx fv sx sw fo cn qa qb qc qd) lv pc (.int z :: .ref (ad 0) :: rest) :=
  ww_put (w' := xW ad cB cI P wy pl ac vr sl gd lk fx z sx sw fo cn qa qb qc qd) hX in_X0 tyX0 tyX0_ok nmX0 rfl 0 rfl 13 (by decide) q44 rfl (rfl) (rfl) (Nat.le_of_ble_eq_true rfl) rfl hd k
theorem xg_secondX (hX : Fx X cc RX0 nL fr lo cB cI) (hd : decode cc pc = .ok (.getfield 119, 3)) (k : ww X (xW ad cB cI P wy pl ac vr sl gd lk fx fv sx sw fo cn qa qb qc qd) lv (pc + 3) (.int (nI sx) :: rest)) : ww X (xW ad cB cI P wy pl ac vr sl gd lk fx fv sx sw fo cn qa qb qc qd) lv pc (.ref (ad 0) :: rest) :=
  ww_get hX in_X0 rfl 0 rfl 14 (by decide) q45 rfl hd k
theorem xp_secondX (hX : Fx X cc RX0 nL fr lo cB cI) {z : Nat} (hd : decode cc pc = .ok (.putfield 119, 3)) (k : ww X (xW ad cB cI P wy pl ac vr sl gd lk fx fv z sw fo cn qa qb qc qd) lv (pc + 3) rest) : ww X (xW ad cB cI P wy pl ac vr sl gd lk fx fv sx sw fo cn qa qb qc qd) lv pc (.int (nI z) :: .ref (ad 0) :: rest) :=
  ww_put (w' := xW ad cB cI P wy pl ac vr sl gd lk fx fv z sw fo cn qa qb qc qd) hX in_X0 tyX0 tyX0_ok nmX0 rfl 0 rfl 14 (by decide) q45 rfl (rfl) (rfl) (Nat.le_of_ble_eq_true rfl) rfl hd k
theorem xg_secondV (hX : Fx X cc RX0 nL fr lo cB cI) (hd : decode cc pc = .ok (.getfield 122, 3)) (k : ww X (xW ad cB cI P wy pl ac vr sl gd lk fx fv sx sw fo cn qa qb qc qd) lv (pc + 3) (.int sw :: rest)) : ww X (xW ad cB cI P wy pl ac vr sl gd lk fx fv sx sw fo cn qa qb qc qd) lv pc (.ref (ad 0) :: rest) :=
  ww_get hX in_X0 rfl 0 rfl 15 (by decide) q46 rfl hd k
theorem xp_secondV (hX : Fx X cc RX0 nL fr lo cB cI) {z : Int32} (hd : decode cc pc = .ok (.putfield 122, 3)) (k : ww X (xW ad cB cI P wy pl ac vr sl gd lk fx fv sx z fo cn qa qb qc qd) lv (pc + 3) rest) : ww X (xW ad cB cI P wy pl ac vr sl gd lk fx fv sx sw fo cn qa qb qc qd) lv pc (.int z :: .ref (ad 0) :: rest) :=
  ww_put (w' := xW ad cB cI P wy pl ac vr sl gd lk fx fv sx z fo cn qa qb qc qd) hX in_X0 tyX0 tyX0_ok nmX0 rfl 0 rfl 15 (by decide) q46 rfl (rfl) (rfl) (Nat.le_of_ble_eq_true rfl) rfl hd k
theorem xg_found (hX : Fx X cc RX0 nL fr lo cB cI) (hd : decode cc pc = .ok (.getfield 83, 3)) (k : ww X (xW ad cB cI P wy pl ac vr sl gd lk fx fv sx sw fo cn qa qb qc qd) lv (pc + 3) (.int (bI fo) :: rest)) : ww X (xW ad cB cI P wy pl ac vr sl gd lk fx fv sx sw fo cn qa qb qc qd) lv pc (.ref (ad 0) :: rest) :=
  ww_get hX in_X0 rfl 0 rfl 16 (by decide) q47 rfl hd k
theorem xp_found (hX : Fx X cc RX0 nL fr lo cB cI) {z : Bool} (hd : decode cc pc = .ok (.putfield 83, 3)) (k : ww X (xW ad cB cI P wy pl ac vr sl gd lk fx fv sx sw z cn qa qb qc qd) lv (pc + 3) rest) : ww X (xW ad cB cI P wy pl ac vr sl gd lk fx fv sx sw fo cn qa qb qc qd) lv pc (.int (bI z) :: .ref (ad 0) :: rest) :=
  ww_put (w' := xW ad cB cI P wy pl ac vr sl gd lk fx fv sx sw z cn qa qb qc qd) hX in_X0 tyX0 tyX0_ok nmX0 rfl 0 rfl 16 (by decide) q47 rfl (by cases z <;> rfl) (by cases z <;> rfl) (Nat.le_of_ble_eq_true rfl) rfl hd k
theorem xg_classCount (hX : Fx X cc RX0 nL fr lo cB cI) (hd : decode cc pc = .ok (.getfield 79, 3)) (k : ww X (xW ad cB cI P wy pl ac vr sl gd lk fx fv sx sw fo cn qa qb qc qd) lv (pc + 3) (.int (nI cn) :: rest)) : ww X (xW ad cB cI P wy pl ac vr sl gd lk fx fv sx sw fo cn qa qb qc qd) lv pc (.ref (ad 0) :: rest) :=
  ww_get hX in_X0 rfl 0 rfl 17 (by decide) q48 rfl hd k
theorem xp_classCount (hX : Fx X cc RX0 nL fr lo cB cI) {z : Nat} (hd : decode cc pc = .ok (.putfield 79, 3)) (k : ww X (xW ad cB cI P wy pl ac vr sl gd lk fx fv sx sw fo z qa qb qc qd) lv (pc + 3) rest) : ww X (xW ad cB cI P wy pl ac vr sl gd lk fx fv sx sw fo cn qa qb qc qd) lv pc (.int (nI z) :: .ref (ad 0) :: rest) :=
  ww_put (w' := xW ad cB cI P wy pl ac vr sl gd lk fx fv sx sw fo z qa qb qc qd) hX in_X0 tyX0 tyX0_ok nmX0 rfl 0 rfl 17 (by decide) q48 rfl (rfl) (rfl) (Nat.le_of_ble_eq_true rfl) rfl hd k
theorem xg_leastV (hX : Fx X cc RX0 nL fr lo cB cI) (hd : decode cc pc = .ok (.getfield 44, 3)) (k : ww X (xW ad cB cI P wy pl ac vr sl gd lk fx fv sx sw fo cn qa qb qc qd) lv (pc + 3) (.ref (ad 12) :: rest)) : ww X (xW ad cB cI P wy pl ac vr sl gd lk fx fv sx sw fo cn qa qb qc qd) lv pc (.ref (ad 0) :: rest) :=
  ww_get hX in_X0 rfl 0 rfl 18 (by decide) q49 rfl hd k
theorem xg_mostV (hX : Fx X cc RX0 nL fr lo cB cI) (hd : decode cc pc = .ok (.getfield 47, 3)) (k : ww X (xW ad cB cI P wy pl ac vr sl gd lk fx fv sx sw fo cn qa qb qc qd) lv (pc + 3) (.ref (ad 13) :: rest)) : ww X (xW ad cB cI P wy pl ac vr sl gd lk fx fv sx sw fo cn qa qb qc qd) lv pc (.ref (ad 0) :: rest) :=
  ww_get hX in_X0 rfl 0 rfl 19 (by decide) q50 rfl hd k
theorem xg_leastA (hX : Fx X cc RX0 nL fr lo cB cI) (hd : decode cc pc = .ok (.getfield 50, 3)) (k : ww X (xW ad cB cI P wy pl ac vr sl gd lk fx fv sx sw fo cn qa qb qc qd) lv (pc + 3) (.ref (ad 14) :: rest)) : ww X (xW ad cB cI P wy pl ac vr sl gd lk fx fv sx sw fo cn qa qb qc qd) lv pc (.ref (ad 0) :: rest) :=
  ww_get hX in_X0 rfl 0 rfl 20 (by decide) q51 rfl hd k
theorem xg_mostA (hX : Fx X cc RX0 nL fr lo cB cI) (hd : decode cc pc = .ok (.getfield 53, 3)) (k : ww X (xW ad cB cI P wy pl ac vr sl gd lk fx fv sx sw fo cn qa qb qc qd) lv (pc + 3) (.ref (ad 15) :: rest)) : ww X (xW ad cB cI P wy pl ac vr sl gd lk fx fv sx sw fo cn qa qb qc qd) lv pc (.ref (ad 0) :: rest) :=
  ww_get hX in_X0 rfl 0 rfl 21 (by decide) q52 rfl hd k
theorem xl_sizes (hX : Fx X cc RX0 nL fr lo cB cI) (h : a < 3) (hd : decode cc pc = .ok (.baload, 1)) (k : ww X (xW ad cB cI P wy pl ac vr sl gd lk fx fv sx sw fo cn qa qb qc qd) lv (pc + 1) (.int (nI ((pS P) a)) :: rest)) : ww X (xW ad cB cI P wy pl ac vr sl gd lk fx fv sx sw fo cn qa qb qc qd) lv pc (.int (nI a) :: .ref (ad 1) :: rest) :=
  ww_baldN hX 1 rfl h (by decide) hd k
theorem xs_sizes (hX : Fx X cc RX0 nL fr lo cB cI) (h : a < 3) (hv : v < 128) (hd : decode cc pc = .ok (.bastore, 1)) (k : ww X (xW ad cB cI (va_up (pS P) a v, pK P, pN P, pV P, pA P) wy pl ac vr sl gd lk fx fv sx sw fo cn qa qb qc qd) lv (pc + 1) rest) : ww X (xW ad cB cI P wy pl ac vr sl gd lk fx fv sx sw fo cn qa qb qc qd) lv pc (.int (nI v) :: .int (nI a) :: .ref (ad 1) :: rest) :=
  ww_bastN hX 1 rfl h (by decide) hv rfl hd k
theorem xl_kinds (hX : Fx X cc RX0 nL fr lo cB cI) (h : a < 12) (hd : decode cc pc = .ok (.baload, 1)) (k : ww X (xW ad cB cI P wy pl ac vr sl gd lk fx fv sx sw fo cn qa qb qc qd) lv (pc + 1) (.int (nI ((pK P) a)) :: rest)) : ww X (xW ad cB cI P wy pl ac vr sl gd lk fx fv sx sw fo cn qa qb qc qd) lv pc (.int (nI a) :: .ref (ad 2) :: rest) :=
  ww_baldN hX 2 rfl h (by decide) hd k
theorem xs_kinds (hX : Fx X cc RX0 nL fr lo cB cI) (h : a < 12) (hv : v < 128) (hd : decode cc pc = .ok (.bastore, 1)) (k : ww X (xW ad cB cI (pS P, va_up (pK P) a v, pN P, pV P, pA P) wy pl ac vr sl gd lk fx fv sx sw fo cn qa qb qc qd) lv (pc + 1) rest) : ww X (xW ad cB cI P wy pl ac vr sl gd lk fx fv sx sw fo cn qa qb qc qd) lv pc (.int (nI v) :: .int (nI a) :: .ref (ad 2) :: rest) :=
  ww_bastN hX 2 rfl h (by decide) hv rfl hd k
theorem xl_numbers (hX : Fx X cc RX0 nL fr lo cB cI) (h : a < 12) (hd : decode cc pc = .ok (.iaload, 1)) (k : ww X (xW ad cB cI P wy pl ac vr sl gd lk fx fv sx sw fo cn qa qb qc qd) lv (pc + 1) (.int ((pN P) a) :: rest)) : ww X (xW ad cB cI P wy pl ac vr sl gd lk fx fv sx sw fo cn qa qb qc qd) lv pc (.int (nI a) :: .ref (ad 3) :: rest) :=
  ww_iald hX 3 rfl h (by decide) hd k
theorem xs_numbers (hX : Fx X cc RX0 nL fr lo cB cI) (h : a < 12) (hd : decode cc pc = .ok (.iastore, 1)) (k : ww X (xW ad cB cI (pS P, pK P, va_up (pN P) a x, pV P, pA P) wy pl ac vr sl gd lk fx fv sx sw fo cn qa qb qc qd) lv (pc + 1) rest) : ww X (xW ad cB cI P wy pl ac vr sl gd lk fx fv sx sw fo cn qa qb qc qd) lv pc (.int x :: .int (nI a) :: .ref (ad 3) :: rest) :=
  ww_iast hX 3 rfl h (by decide) rfl hd k
theorem xl_startV (hX : Fx X cc RX0 nL fr lo cB cI) (h : a < 3) (hd : decode cc pc = .ok (.iaload, 1)) (k : ww X (xW ad cB cI P wy pl ac vr sl gd lk fx fv sx sw fo cn qa qb qc qd) lv (pc + 1) (.int ((pV P) a) :: rest)) : ww X (xW ad cB cI P wy pl ac vr sl gd lk fx fv sx sw fo cn qa qb qc qd) lv pc (.int (nI a) :: .ref (ad 4) :: rest) :=
  ww_iald hX 4 rfl h (by decide) hd k
theorem xs_startV (hX : Fx X cc RX0 nL fr lo cB cI) (h : a < 3) (hd : decode cc pc = .ok (.iastore, 1)) (k : ww X (xW ad cB cI (pS P, pK P, pN P, va_up (pV P) a x, pA P) wy pl ac vr sl gd lk fx fv sx sw fo cn qa qb qc qd) lv (pc + 1) rest) : ww X (xW ad cB cI P wy pl ac vr sl gd lk fx fv sx sw fo cn qa qb qc qd) lv pc (.int x :: .int (nI a) :: .ref (ad 4) :: rest) :=
  ww_iast hX 4 rfl h (by decide) rfl hd k
theorem xl_startA (hX : Fx X cc RX0 nL fr lo cB cI) (h : a < 3) (hd : decode cc pc = .ok (.iaload, 1)) (k : ww X (xW ad cB cI P wy pl ac vr sl gd lk fx fv sx sw fo cn qa qb qc qd) lv (pc + 1) (.int ((pA P) a) :: rest)) : ww X (xW ad cB cI P wy pl ac vr sl gd lk fx fv sx sw fo cn qa qb qc qd) lv pc (.int (nI a) :: .ref (ad 5) :: rest) :=
  ww_iald hX 5 rfl h (by decide) hd k
theorem xs_startA (hX : Fx X cc RX0 nL fr lo cB cI) (h : a < 3) (hd : decode cc pc = .ok (.iastore, 1)) (k : ww X (xW ad cB cI (pS P, pK P, pN P, pV P, va_up (pA P) a x) wy pl ac vr sl gd lk fx fv sx sw fo cn qa qb qc qd) lv (pc + 1) rest) : ww X (xW ad cB cI P wy pl ac vr sl gd lk fx fv sx sw fo cn qa qb qc qd) lv pc (.int x :: .int (nI a) :: .ref (ad 5) :: rest) :=
  ww_iast hX 5 rfl h (by decide) rfl hd k
theorem xl_ways (hX : Fx X cc RX0 nL fr lo cB cI) (h : a < 125) (hd : decode cc pc = .ok (.iaload, 1)) (k : ww X (xW ad cB cI P wy pl ac vr sl gd lk fx fv sx sw fo cn qa qb qc qd) lv (pc + 1) (.int (nI ((wy) a)) :: rest)) : ww X (xW ad cB cI P wy pl ac vr sl gd lk fx fv sx sw fo cn qa qb qc qd) lv pc (.int (nI a) :: .ref (ad 6) :: rest) :=
  ww_ialdN hX 6 rfl h (by decide) hd k
theorem xs_ways (hX : Fx X cc RX0 nL fr lo cB cI) (h : a < 125) (hd : decode cc pc = .ok (.iastore, 1)) (k : ww X (xW ad cB cI P (va_up (wy) a v) pl ac vr sl gd lk fx fv sx sw fo cn qa qb qc qd) lv (pc + 1) rest) : ww X (xW ad cB cI P wy pl ac vr sl gd lk fx fv sx sw fo cn qa qb qc qd) lv pc (.int (nI v) :: .int (nI a) :: .ref (ad 6) :: rest) :=
  ww_iastN hX 6 rfl h (by decide) rfl hd k
theorem xl_place (hX : Fx X cc RX0 nL fr lo cB cI) (h : a < 39) (hd : decode cc pc = .ok (.baload, 1)) (k : ww X (xW ad cB cI P wy pl ac vr sl gd lk fx fv sx sw fo cn qa qb qc qd) lv (pc + 1) (.int (nI ((pl) a)) :: rest)) : ww X (xW ad cB cI P wy pl ac vr sl gd lk fx fv sx sw fo cn qa qb qc qd) lv pc (.int (nI a) :: .ref (ad 7) :: rest) :=
  ww_baldN hX 7 rfl h (by decide) hd k
theorem xs_place (hX : Fx X cc RX0 nL fr lo cB cI) (h : a < 39) (hv : v < 128) (hd : decode cc pc = .ok (.bastore, 1)) (k : ww X (xW ad cB cI P wy (va_up (pl) a v) ac vr sl gd lk fx fv sx sw fo cn qa qb qc qd) lv (pc + 1) rest) : ww X (xW ad cB cI P wy pl ac vr sl gd lk fx fv sx sw fo cn qa qb qc qd) lv pc (.int (nI v) :: .int (nI a) :: .ref (ad 7) :: rest) :=
  ww_bastN hX 7 rfl h (by decide) hv rfl hd k
theorem xl_accs (hX : Fx X cc RX0 nL fr lo cB cI) (h : a < 39) (hd : decode cc pc = .ok (.iaload, 1)) (k : ww X (xW ad cB cI P wy pl ac vr sl gd lk fx fv sx sw fo cn qa qb qc qd) lv (pc + 1) (.int ((ac) a) :: rest)) : ww X (xW ad cB cI P wy pl ac vr sl gd lk fx fv sx sw fo cn qa qb qc qd) lv pc (.int (nI a) :: .ref (ad 8) :: rest) :=
  ww_iald hX 8 rfl h (by decide) hd k
theorem xs_accs (hX : Fx X cc RX0 nL fr lo cB cI) (h : a < 39) (hd : decode cc pc = .ok (.iastore, 1)) (k : ww X (xW ad cB cI P wy pl (va_up (ac) a x) vr sl gd lk fx fv sx sw fo cn qa qb qc qd) lv (pc + 1) rest) : ww X (xW ad cB cI P wy pl ac vr sl gd lk fx fv sx sw fo cn qa qb qc qd) lv pc (.int x :: .int (nI a) :: .ref (ad 8) :: rest) :=
  ww_iast hX 8 rfl h (by decide) rfl hd k
theorem xl_vars (hX : Fx X cc RX0 nL fr lo cB cI) (h : a < 39) (hd : decode cc pc = .ok (.iaload, 1)) (k : ww X (xW ad cB cI P wy pl ac vr sl gd lk fx fv sx sw fo cn qa qb qc qd) lv (pc + 1) (.int ((vr) a) :: rest)) : ww X (xW ad cB cI P wy pl ac vr sl gd lk fx fv sx sw fo cn qa qb qc qd) lv pc (.int (nI a) :: .ref (ad 9) :: rest) :=
  ww_iald hX 9 rfl h (by decide) hd k
theorem xs_vars (hX : Fx X cc RX0 nL fr lo cB cI) (h : a < 39) (hd : decode cc pc = .ok (.iastore, 1)) (k : ww X (xW ad cB cI P wy pl ac (va_up (vr) a x) sl gd lk fx fv sx sw fo cn qa qb qc qd) lv (pc + 1) rest) : ww X (xW ad cB cI P wy pl ac vr sl gd lk fx fv sx sw fo cn qa qb qc qd) lv pc (.int x :: .int (nI a) :: .ref (ad 9) :: rest) :=
  ww_iast hX 9 rfl h (by decide) rfl hd k
theorem xl_sleeping (hX : Fx X cc RX0 nL fr lo cB cI) (h : a < 13) (hd : decode cc pc = .ok (.baload, 1)) (k : ww X (xW ad cB cI P wy pl ac vr sl gd lk fx fv sx sw fo cn qa qb qc qd) lv (pc + 1) (.int (nI ((sl) a)) :: rest)) : ww X (xW ad cB cI P wy pl ac vr sl gd lk fx fv sx sw fo cn qa qb qc qd) lv pc (.int (nI a) :: .ref (ad 10) :: rest) :=
  ww_baldN hX 10 rfl h (by decide) hd k
theorem xs_sleeping (hX : Fx X cc RX0 nL fr lo cB cI) (h : a < 13) (hv : v < 128) (hd : decode cc pc = .ok (.bastore, 1)) (k : ww X (xW ad cB cI P wy pl ac vr (va_up (sl) a v) gd lk fx fv sx sw fo cn qa qb qc qd) lv (pc + 1) rest) : ww X (xW ad cB cI P wy pl ac vr sl gd lk fx fv sx sw fo cn qa qb qc qd) lv pc (.int (nI v) :: .int (nI a) :: .ref (ad 10) :: rest) :=
  ww_bastN hX 10 rfl h (by decide) hv rfl hd k
theorem xl_hadTurn (hX : Fx X cc RX0 nL fr lo cB cI) (h : a < 13) (hd : decode cc pc = .ok (.baload, 1)) (k : ww X (xW ad cB cI P wy pl ac vr sl gd lk fx fv sx sw fo cn qa qb qc qd) lv (pc + 1) (.int (nI ((gd) a)) :: rest)) : ww X (xW ad cB cI P wy pl ac vr sl gd lk fx fv sx sw fo cn qa qb qc qd) lv pc (.int (nI a) :: .ref (ad 11) :: rest) :=
  ww_baldN hX 11 rfl h (by decide) hd k
theorem xs_hadTurn (hX : Fx X cc RX0 nL fr lo cB cI) (h : a < 13) (hv : v < 128) (hd : decode cc pc = .ok (.bastore, 1)) (k : ww X (xW ad cB cI P wy pl ac vr sl (va_up (gd) a v) lk fx fv sx sw fo cn qa qb qc qd) lv (pc + 1) rest) : ww X (xW ad cB cI P wy pl ac vr sl gd lk fx fv sx sw fo cn qa qb qc qd) lv pc (.int (nI v) :: .int (nI a) :: .ref (ad 11) :: rest) :=
  ww_bastN hX 11 rfl h (by decide) hv rfl hd k
theorem xl_leastV (hX : Fx X cc RX0 nL fr lo cB cI) (h : a < 3) (hd : decode cc pc = .ok (.iaload, 1)) (k : ww X (xW ad cB cI P wy pl ac vr sl gd lk fx fv sx sw fo cn qa qb qc qd) lv (pc + 1) (.int ((qa) a) :: rest)) : ww X (xW ad cB cI P wy pl ac vr sl gd lk fx fv sx sw fo cn qa qb qc qd) lv pc (.int (nI a) :: .ref (ad 12) :: rest) :=
  ww_iald hX 12 rfl h (by decide) hd k
theorem xs_leastV (hX : Fx X cc RX0 nL fr lo cB cI) (h : a < 3) (hd : decode cc pc = .ok (.iastore, 1)) (k : ww X (xW ad cB cI P wy pl ac vr sl gd lk fx fv sx sw fo cn (va_up (qa) a x) qb qc qd) lv (pc + 1) rest) : ww X (xW ad cB cI P wy pl ac vr sl gd lk fx fv sx sw fo cn qa qb qc qd) lv pc (.int x :: .int (nI a) :: .ref (ad 12) :: rest) :=
  ww_iast hX 12 rfl h (by decide) rfl hd k
theorem xl_mostV (hX : Fx X cc RX0 nL fr lo cB cI) (h : a < 3) (hd : decode cc pc = .ok (.iaload, 1)) (k : ww X (xW ad cB cI P wy pl ac vr sl gd lk fx fv sx sw fo cn qa qb qc qd) lv (pc + 1) (.int ((qb) a) :: rest)) : ww X (xW ad cB cI P wy pl ac vr sl gd lk fx fv sx sw fo cn qa qb qc qd) lv pc (.int (nI a) :: .ref (ad 13) :: rest) :=
  ww_iald hX 13 rfl h (by decide) hd k
theorem xs_mostV (hX : Fx X cc RX0 nL fr lo cB cI) (h : a < 3) (hd : decode cc pc = .ok (.iastore, 1)) (k : ww X (xW ad cB cI P wy pl ac vr sl gd lk fx fv sx sw fo cn qa (va_up (qb) a x) qc qd) lv (pc + 1) rest) : ww X (xW ad cB cI P wy pl ac vr sl gd lk fx fv sx sw fo cn qa qb qc qd) lv pc (.int x :: .int (nI a) :: .ref (ad 13) :: rest) :=
  ww_iast hX 13 rfl h (by decide) rfl hd k
theorem xl_leastA (hX : Fx X cc RX0 nL fr lo cB cI) (h : a < 3) (hd : decode cc pc = .ok (.iaload, 1)) (k : ww X (xW ad cB cI P wy pl ac vr sl gd lk fx fv sx sw fo cn qa qb qc qd) lv (pc + 1) (.int ((qc) a) :: rest)) : ww X (xW ad cB cI P wy pl ac vr sl gd lk fx fv sx sw fo cn qa qb qc qd) lv pc (.int (nI a) :: .ref (ad 14) :: rest) :=
  ww_iald hX 14 rfl h (by decide) hd k
theorem xs_leastA (hX : Fx X cc RX0 nL fr lo cB cI) (h : a < 3) (hd : decode cc pc = .ok (.iastore, 1)) (k : ww X (xW ad cB cI P wy pl ac vr sl gd lk fx fv sx sw fo cn qa qb (va_up (qc) a x) qd) lv (pc + 1) rest) : ww X (xW ad cB cI P wy pl ac vr sl gd lk fx fv sx sw fo cn qa qb qc qd) lv pc (.int x :: .int (nI a) :: .ref (ad 14) :: rest) :=
  ww_iast hX 14 rfl h (by decide) rfl hd k
theorem xl_mostA (hX : Fx X cc RX0 nL fr lo cB cI) (h : a < 3) (hd : decode cc pc = .ok (.iaload, 1)) (k : ww X (xW ad cB cI P wy pl ac vr sl gd lk fx fv sx sw fo cn qa qb qc qd) lv (pc + 1) (.int ((qd) a) :: rest)) : ww X (xW ad cB cI P wy pl ac vr sl gd lk fx fv sx sw fo cn qa qb qc qd) lv pc (.int (nI a) :: .ref (ad 15) :: rest) :=
  ww_iald hX 15 rfl h (by decide) hd k
theorem xs_mostA (hX : Fx X cc RX0 nL fr lo cB cI) (h : a < 3) (hd : decode cc pc = .ok (.iastore, 1)) (k : ww X (xW ad cB cI P wy pl ac vr sl gd lk fx fv sx sw fo cn qa qb qc (va_up (qd) a x)) lv (pc + 1) rest) : ww X (xW ad cB cI P wy pl ac vr sl gd lk fx fv sx sw fo cn qa qb qc qd) lv pc (.int x :: .int (nI a) :: .ref (ad 15) :: rest) :=
  ww_iast hX 15 rfl h (by decide) rfl hd k
end WX0
section WX1
variable {X : Cx} {cc : ByteArray} {nL fr lo : Nat} {cB cI : ClassId} {lv : List (Nat × Value)} {pc : Nat} {rest : List Value} {a v : Nat} {x : Int32} {ad : Nat → Nat} {P : Pg} {tn : Nat} {tu : Nat → Nat} {st : Nat → Nat} {va : Nat → Int32} {pt : Nat → Nat} {ho : Nat → Int32}
theorem mg_size (hX : Fx X cc RX1 nL fr lo cB cI) (hd : decode cc pc = .ok (.getfield 7, 3)) (k : ww X (mW ad cI P tn tu st va pt ho) lv (pc + 3) (.ref (ad 1) :: rest)) : ww X (mW ad cI P tn tu st va pt ho) lv pc (.ref (ad 0) :: rest) :=
  ww_get hX in_X1 rfl 0 rfl 0 (by decide) q205 rfl hd k
theorem mg_kinds (hX : Fx X cc RX1 nL fr lo cB cI) (hd : decode cc pc = .ok (.getfield 13, 3)) (k : ww X (mW ad cI P tn tu st va pt ho) lv (pc + 3) (.ref (ad 2) :: rest)) : ww X (mW ad cI P tn tu st va pt ho) lv pc (.ref (ad 0) :: rest) :=
  ww_get hX in_X1 rfl 0 rfl 1 (by decide) q206 rfl hd k
theorem mg_numbers (hX : Fx X cc RX1 nL fr lo cB cI) (hd : decode cc pc = .ok (.getfield 16, 3)) (k : ww X (mW ad cI P tn tu st va pt ho) lv (pc + 3) (.ref (ad 3) :: rest)) : ww X (mW ad cI P tn tu st va pt ho) lv pc (.ref (ad 0) :: rest) :=
  ww_get hX in_X1 rfl 0 rfl 2 (by decide) q207 rfl hd k
theorem mg_begins (hX : Fx X cc RX1 nL fr lo cB cI) (hd : decode cc pc = .ok (.getfield 19, 3)) (k : ww X (mW ad cI P tn tu st va pt ho) lv (pc + 3) (.ref (ad 4) :: rest)) : ww X (mW ad cI P tn tu st va pt ho) lv pc (.ref (ad 0) :: rest) :=
  ww_get hX in_X1 rfl 0 rfl 3 (by decide) q208 rfl hd k
theorem mg_turns (hX : Fx X cc RX1 nL fr lo cB cI) (hd : decode cc pc = .ok (.getfield 45, 3)) (k : ww X (mW ad cI P tn tu st va pt ho) lv (pc + 3) (.int (nI tn) :: rest)) : ww X (mW ad cI P tn tu st va pt ho) lv pc (.ref (ad 0) :: rest) :=
  ww_get hX in_X1 rfl 0 rfl 4 (by decide) q209 rfl hd k
theorem mp_turns (hX : Fx X cc RX1 nL fr lo cB cI) {z : Nat} (hd : decode cc pc = .ok (.putfield 45, 3)) (k : ww X (mW ad cI P z tu st va pt ho) lv (pc + 3) rest) : ww X (mW ad cI P tn tu st va pt ho) lv pc (.int (nI z) :: .ref (ad 0) :: rest) :=
  ww_put (w' := mW ad cI P z tu st va pt ho) hX in_X1 tyX1 tyX1_ok nmX1 rfl 0 rfl 4 (by decide) q209 rfl (rfl) (rfl) (Nat.le_of_ble_eq_true rfl) rfl hd k
theorem mg_turn (hX : Fx X cc RX1 nL fr lo cB cI) (hd : decode cc pc = .ok (.getfield 22, 3)) (k : ww X (mW ad cI P tn tu st va pt ho) lv (pc + 3) (.ref (ad 5) :: rest)) : ww X (mW ad cI P tn tu st va pt ho) lv pc (.ref (ad 0) :: rest) :=
  ww_get hX in_X1 rfl 0 rfl 5 (by decide) q210 rfl hd k
theorem mg_steps (hX : Fx X cc RX1 nL fr lo cB cI) (hd : decode cc pc = .ok (.getfield 25, 3)) (k : ww X (mW ad cI P tn tu st va pt ho) lv (pc + 3) (.ref (ad 6) :: rest)) : ww X (mW ad cI P tn tu st va pt ho) lv pc (.ref (ad 0) :: rest) :=
  ww_get hX in_X1 rfl 0 rfl 6 (by decide) q211 rfl hd k
theorem mg_values (hX : Fx X cc RX1 nL fr lo cB cI) (hd : decode cc pc = .ok (.getfield 28, 3)) (k : ww X (mW ad cI P tn tu st va pt ho) lv (pc + 3) (.ref (ad 7) :: rest)) : ww X (mW ad cI P tn tu st va pt ho) lv pc (.ref (ad 0) :: rest) :=
  ww_get hX in_X1 rfl 0 rfl 7 (by decide) q212 rfl hd k
theorem mg_at (hX : Fx X cc RX1 nL fr lo cB cI) (hd : decode cc pc = .ok (.getfield 31, 3)) (k : ww X (mW ad cI P tn tu st va pt ho) lv (pc + 3) (.ref (ad 8) :: rest)) : ww X (mW ad cI P tn tu st va pt ho) lv pc (.ref (ad 0) :: rest) :=
  ww_get hX in_X1 rfl 0 rfl 8 (by decide) q213 rfl hd k
theorem mg_holder (hX : Fx X cc RX1 nL fr lo cB cI) (hd : decode cc pc = .ok (.getfield 34, 3)) (k : ww X (mW ad cI P tn tu st va pt ho) lv (pc + 3) (.ref (ad 9) :: rest)) : ww X (mW ad cI P tn tu st va pt ho) lv pc (.ref (ad 0) :: rest) :=
  ww_get hX in_X1 rfl 0 rfl 9 (by decide) q214 rfl hd k
theorem ml_size (hX : Fx X cc RX1 nL fr lo cB cI) (h : a < 3) (hd : decode cc pc = .ok (.iaload, 1)) (k : ww X (mW ad cI P tn tu st va pt ho) lv (pc + 1) (.int (nI ((pS P) a)) :: rest)) : ww X (mW ad cI P tn tu st va pt ho) lv pc (.int (nI a) :: .ref (ad 1) :: rest) :=
  ww_ialdN hX 1 rfl h (by decide) hd k
theorem ms_size (hX : Fx X cc RX1 nL fr lo cB cI) (h : a < 3) (hd : decode cc pc = .ok (.iastore, 1)) (k : ww X (mW ad cI (va_up (pS P) a v, pK P, pN P, pV P, pA P) tn tu st va pt ho) lv (pc + 1) rest) : ww X (mW ad cI P tn tu st va pt ho) lv pc (.int (nI v) :: .int (nI a) :: .ref (ad 1) :: rest) :=
  ww_iastN hX 1 rfl h (by decide) rfl hd k
theorem ml_kinds (hX : Fx X cc RX1 nL fr lo cB cI) (h : a < 12) (hd : decode cc pc = .ok (.iaload, 1)) (k : ww X (mW ad cI P tn tu st va pt ho) lv (pc + 1) (.int (nI ((pK P) a)) :: rest)) : ww X (mW ad cI P tn tu st va pt ho) lv pc (.int (nI a) :: .ref (ad 2) :: rest) :=
  ww_ialdN hX 2 rfl h (by decide) hd k
theorem ms_kinds (hX : Fx X cc RX1 nL fr lo cB cI) (h : a < 12) (hd : decode cc pc = .ok (.iastore, 1)) (k : ww X (mW ad cI (pS P, va_up (pK P) a v, pN P, pV P, pA P) tn tu st va pt ho) lv (pc + 1) rest) : ww X (mW ad cI P tn tu st va pt ho) lv pc (.int (nI v) :: .int (nI a) :: .ref (ad 2) :: rest) :=
  ww_iastN hX 2 rfl h (by decide) rfl hd k
theorem ml_numbers (hX : Fx X cc RX1 nL fr lo cB cI) (h : a < 12) (hd : decode cc pc = .ok (.iaload, 1)) (k : ww X (mW ad cI P tn tu st va pt ho) lv (pc + 1) (.int ((pN P) a) :: rest)) : ww X (mW ad cI P tn tu st va pt ho) lv pc (.int (nI a) :: .ref (ad 3) :: rest) :=
  ww_iald hX 3 rfl h (by decide) hd k
theorem ms_numbers (hX : Fx X cc RX1 nL fr lo cB cI) (h : a < 12) (hd : decode cc pc = .ok (.iastore, 1)) (k : ww X (mW ad cI (pS P, pK P, va_up (pN P) a x, pV P, pA P) tn tu st va pt ho) lv (pc + 1) rest) : ww X (mW ad cI P tn tu st va pt ho) lv pc (.int x :: .int (nI a) :: .ref (ad 3) :: rest) :=
  ww_iast hX 3 rfl h (by decide) rfl hd k
theorem ml_begins (hX : Fx X cc RX1 nL fr lo cB cI) (h : a < 6) (hd : decode cc pc = .ok (.iaload, 1)) (k : ww X (mW ad cI P tn tu st va pt ho) lv (pc + 1) (.int ((pB P) a) :: rest)) : ww X (mW ad cI P tn tu st va pt ho) lv pc (.int (nI a) :: .ref (ad 4) :: rest) :=
  ww_iald hX 4 rfl h (by decide) hd k
theorem ml_turn (hX : Fx X cc RX1 nL fr lo cB cI) (h : a < 12) (hd : decode cc pc = .ok (.iaload, 1)) (k : ww X (mW ad cI P tn tu st va pt ho) lv (pc + 1) (.int (nI ((tu) a)) :: rest)) : ww X (mW ad cI P tn tu st va pt ho) lv pc (.int (nI a) :: .ref (ad 5) :: rest) :=
  ww_ialdN hX 5 rfl h (by decide) hd k
theorem ms_turn (hX : Fx X cc RX1 nL fr lo cB cI) (h : a < 12) (hd : decode cc pc = .ok (.iastore, 1)) (k : ww X (mW ad cI P tn (va_up (tu) a v) st va pt ho) lv (pc + 1) rest) : ww X (mW ad cI P tn tu st va pt ho) lv pc (.int (nI v) :: .int (nI a) :: .ref (ad 5) :: rest) :=
  ww_iastN hX 5 rfl h (by decide) rfl hd k
theorem ml_steps (hX : Fx X cc RX1 nL fr lo cB cI) (h : a < 12) (hd : decode cc pc = .ok (.iaload, 1)) (k : ww X (mW ad cI P tn tu st va pt ho) lv (pc + 1) (.int (nI ((st) a)) :: rest)) : ww X (mW ad cI P tn tu st va pt ho) lv pc (.int (nI a) :: .ref (ad 6) :: rest) :=
  ww_ialdN hX 6 rfl h (by decide) hd k
theorem ms_steps (hX : Fx X cc RX1 nL fr lo cB cI) (h : a < 12) (hd : decode cc pc = .ok (.iastore, 1)) (k : ww X (mW ad cI P tn tu (va_up (st) a v) va pt ho) lv (pc + 1) rest) : ww X (mW ad cI P tn tu st va pt ho) lv pc (.int (nI v) :: .int (nI a) :: .ref (ad 6) :: rest) :=
  ww_iastN hX 6 rfl h (by decide) rfl hd k
theorem ml_values (hX : Fx X cc RX1 nL fr lo cB cI) (h : a < 6) (hd : decode cc pc = .ok (.iaload, 1)) (k : ww X (mW ad cI P tn tu st va pt ho) lv (pc + 1) (.int ((va) a) :: rest)) : ww X (mW ad cI P tn tu st va pt ho) lv pc (.int (nI a) :: .ref (ad 7) :: rest) :=
  ww_iald hX 7 rfl h (by decide) hd k
theorem ms_values (hX : Fx X cc RX1 nL fr lo cB cI) (h : a < 6) (hd : decode cc pc = .ok (.iastore, 1)) (k : ww X (mW ad cI P tn tu st (va_up (va) a x) pt ho) lv (pc + 1) rest) : ww X (mW ad cI P tn tu st va pt ho) lv pc (.int x :: .int (nI a) :: .ref (ad 7) :: rest) :=
  ww_iast hX 7 rfl h (by decide) rfl hd k
theorem ml_at (hX : Fx X cc RX1 nL fr lo cB cI) (h : a < 3) (hd : decode cc pc = .ok (.iaload, 1)) (k : ww X (mW ad cI P tn tu st va pt ho) lv (pc + 1) (.int (nI ((pt) a)) :: rest)) : ww X (mW ad cI P tn tu st va pt ho) lv pc (.int (nI a) :: .ref (ad 8) :: rest) :=
  ww_ialdN hX 8 rfl h (by decide) hd k
theorem ms_at (hX : Fx X cc RX1 nL fr lo cB cI) (h : a < 3) (hd : decode cc pc = .ok (.iastore, 1)) (k : ww X (mW ad cI P tn tu st va (va_up (pt) a v) ho) lv (pc + 1) rest) : ww X (mW ad cI P tn tu st va pt ho) lv pc (.int (nI v) :: .int (nI a) :: .ref (ad 8) :: rest) :=
  ww_iastN hX 8 rfl h (by decide) rfl hd k
theorem ml_holder (hX : Fx X cc RX1 nL fr lo cB cI) (h : a < 2) (hd : decode cc pc = .ok (.iaload, 1)) (k : ww X (mW ad cI P tn tu st va pt ho) lv (pc + 1) (.int ((ho) a) :: rest)) : ww X (mW ad cI P tn tu st va pt ho) lv pc (.int (nI a) :: .ref (ad 9) :: rest) :=
  ww_iald hX 9 rfl h (by decide) hd k
theorem ms_holder (hX : Fx X cc RX1 nL fr lo cB cI) (h : a < 2) (hd : decode cc pc = .ok (.iastore, 1)) (k : ww X (mW ad cI P tn tu st va pt (va_up (ho) a x)) lv (pc + 1) rest) : ww X (mW ad cI P tn tu st va pt ho) lv pc (.int x :: .int (nI a) :: .ref (ad 9) :: rest) :=
  ww_iast hX 9 rfl h (by decide) rfl hd k
end WX1
end
section
/-! PURE WORDS: the program's meaning, no machine in sight -/
/-- a program as the checks leave it -/
def pOk (P : Pg) : Prop := (∀ t, pS P t ≤ 4) ∧ ∀ i, pK P i ≤ 5 ∧ (pK P i ≤ 2 → ∃ j, j < 3 ∧ pN P i = nI j) ∧ (4 ≤ pK P i → ∃ j, j < 2 ∧ pN P i = nI j)
/-- thread t holds the lock when it has done so many steps -/
def z_hold (P : Pg) (t : Nat) (lk : Int32) : Nat → Bool
  | 0 => false
  | d + 1 => if pN P (t * 4 + d) = lk ∧ 4 ≤ pK P (t * 4 + d) then decide (pK P (t * 4 + d) = 4) else z_hold P t lk d
def z_can (P : Pg) (a : Nat → Nat) (t : Nat) : Bool :=
  decide (a t < pS P t) && (decide (pK P (t * 4 + a t) ≠ 4) || (!z_hold P 0 (pN P (t * 4 + a t)) (a 0) && !z_hold P 1 (pN P (t * 4 + a t)) (a 1) && !z_hold P 2 (pN P (t * 4 + a t)) (a 2)))
def z_tch (P : Pg) (i j : Nat) : Bool := decide (pN P i = pN P j ∧ ((pK P i ≤ 2 ∧ pK P j ≤ 2 ∧ ¬ (pK P i = 0 ∧ pK P j = 0)) ∨ (4 ≤ pK P i ∧ 4 ≤ pK P j)))
/-- a state: places, variables, accumulators -/
abbrev Zs := (Nat → Nat) × (Nat → Int32) × (Nat → Int32)
def c3N (f : Nat → Nat) : Nat → Nat := fun i => if i < 3 then f i else 0
def c3V (f : Nat → Int32) : Nat → Int32 := fun i => if i < 3 then f i else 0
def z_0 (P : Pg) : Zs := (fun _ => 0, c3V (pV P), c3V (pA P))
/-- thread t carries its next step out -/
def z_stp (P : Pg) (t : Nat) (g : Zs) : Zs :=
  (va_up g.1 t (g.1 t + 1),
   if pK P (t * 4 + g.1 t) = 1 ∨ pK P (t * 4 + g.1 t) = 2 then va_up g.2.1 (pN P (t * 4 + g.1 t)).toNatClampNeg (g.2.2 t) else g.2.1,
   if pK P (t * 4 + g.1 t) = 3 then va_up g.2.2 t (g.2.2 t + pN P (t * 4 + g.1 t)) else if pK P (t * 4 + g.1 t) = 0 ∨ pK P (t * 4 + g.1 t) = 2 then va_up g.2.2 t (g.2.1 (pN P (t * 4 + g.1 t)).toNatClampNeg) else g.2.2)
def z_run (P : Pg) (g : Zs) (w : List Nat) : Zs := w.foldl (fun g t => z_stp P t g) g
def z_vl (P : Pg) (g : Zs) : List Nat → Prop
  | [] => True
  | t :: r => t < 3 ∧ z_can P g.1 t = true ∧ z_vl P (z_stp P t g) r
/-! sets of threads as numbers below 8 -/
def z_tb (m t : Nat) : Bool := decide (m / 2 ^ t % 2 = 1)
def z_mk (f : Nat → Bool) : Nat := (if f 0 then 1 else 0) + (if f 1 then 2 else 0) + (if f 2 then 4 else 0)
/-- the least thread of a set -/
def z_fst (f : Nat → Bool) : Option Nat := if f 0 then some 0 else if f 1 then some 1 else if f 2 then some 2 else none
/-! counting over places -/
def z_pls (s : Nat) : Nat → Nat := fun i => if i = 0 then s / 25 else if i = 1 then s / 5 % 5 else s % 5
def z_std (t : Nat) : Nat := if t = 0 then 25 else if t = 1 then 5 else 1
def z_wt (P : Pg) (s : Nat) : Nat → (Nat → Nat) → Nat → Nat
  | 0, wy => wy
  | t + 1, wy => if 0 < wy s ∧ z_can P (z_pls s) t = true then va_up (z_wt P s t wy) (s + z_std t) (z_wt P s t wy (s + z_std t) + wy s) else z_wt P s t wy
def z_any (P : Pg) (s : Nat) (wy : Nat → Nat) : Nat → Bool
  | 0 => false
  | t + 1 => z_any P s wy t || (decide (0 < wy s) && z_can P (z_pls s) t)
def z_wy (P : Pg) : Nat → Nat → Nat
  | 0 => fun s => if s = 0 then 1 else 0
  | s + 1 => z_wt P s 3 (z_wy P s)
def z_fin (P : Pg) (s : Nat) : Bool := decide (s / 25 = pS P 0 ∧ s / 5 % 5 = pS P 1 ∧ s % 5 = pS P 2)
def z_sum (P : Pg) (stuck : Bool) : Nat → Nat
  | 0 => 0
  | s + 1 => z_sum P stuck s + (if z_any P s (z_wy P s) 3 || (stuck && z_fin P s) then 0 else z_wy P s s)
/-! the walk's findings: found, classes, least and most of variables and accumulators -/
abbrev Za := Bool × Nat × (Nat → Int32) × (Nat → Int32) × (Nat → Int32) × (Nat → Int32)
def z_mn (n : Nat) (first : Bool) (v q : Nat → Int32) : Nat → Int32 := fun x => if x < n then (if first = true ∨ v x < q x then v x else q x) else q x
def z_mx (n : Nat) (first : Bool) (v q : Nat → Int32) : Nat → Int32 := fun x => if x < n then (if first = true ∨ q x < v x then v x else q x) else q x
def z_arr (fx : Nat) (fv : Int32) (sx : Nat) (sw : Int32) (g : Zs) (A : Za) : Za :=
  (A.1 || (decide (g.2.1 fx = fv) && decide (g.2.1 sx = sw)), A.2.1 + 1, z_mn 3 (decide (A.2.1 = 0)) g.2.1 A.2.2.1, z_mx 3 (decide (A.2.1 = 0)) g.2.1 A.2.2.2.1, z_mn 3 (decide (A.2.1 = 0)) g.2.2 A.2.2.2.2.1, z_mx 3 (decide (A.2.1 = 0)) g.2.2 A.2.2.2.2.2)
/-- the state at a level of the walk's arrays -/
def z_nd (pl : Nat → Nat) (ac vr : Nat → Int32) (L : Nat) : Zs := (c3N (fun i => pl (L * 3 + i)), c3V (fun i => vr (L * 3 + i)), c3V (fun i => ac (L * 3 + i)))
/-- who sleeps behind a turn of t: those of the set m whose next steps don't touch t's -/
def z_slp (P : Pg) (a : Nat → Nat) (t : Nat) (f : Nat → Bool) : Nat → Bool := fun s => f s && !z_tch P (t * 4 + a t) (s * 4 + a s)
theorem z_up_same {α : Type} (f : Nat → α) (k : Nat) : va_up f k (f k) = f := by
  funext j
  by_cases h : j = k
  · subst h; simp [va_up]
  · simp [va_up, h]
theorem nb_b (b : Bool) : narrow .boolean (.int (bI b)) = .int (bI b) := by cases b <;> rfl
/-- an index of 0, 1, 2 -/
def z_ix (x : Int32) : Bool := decide (¬ x < 0 ∧ ¬ nI 3 ≤ x)
theorem z_ix_nI {j : Nat} (h : j < 3) : z_ix (nI j) = true := by
  have : ∀ j, j < 3 → z_ix (nI j) = true := by decide
  exact this j h
theorem z_ix_of {x : Int32} (h : z_ix x = true) : ∃ j, j < 3 ∧ x = nI j := by
  have h := of_decide_eq_true h
  rcases pk_ix x (n := 3) (by decide) with q | q | q
  · exact absurd q h.1
  · exact absurd q h.2
  · exact q
end
section
section XA
variable {l : Launch} {D : va_G} {cB cI : ClassId} {ad : Nat → Nat} {P : Pg} {wy pl : Nat → Nat} {ac vr : Nat → Int32} {sl gd : Nat → Nat} {lk : Bool} {fx : Nat} {fv : Int32} {sx : Nat} {sw : Int32} {fo : Bool} {cn : Nat} {qa qb qc qd : Nat → Int32}
set_option maxHeartbeats 4000000 in
set_option maxRecDepth 100000 in
/-- isIndex: 0, 1 or 2 -/
theorem xm_isIndex (x : Int32) {w : va_W} : MI l D cB cI yX0_isIndex cX0_isIndex 1 (some .boolean) 0 0 [.int x] (w) (fun r_ w_ => r_ = bI (z_ix x) ∧ w_ = w) := by
  refine MI.of (by decide) (Nat.le_of_ble_eq_true rfl) ?_
  intro X eL eD hX hret
  subst eL; subst eD
  have hX : Fx X cX0_isIndex RX0 1 0 0 cB cI := hX
  show ww X (w) [(0, .int x)] 0 []
  refine ww_iload_n (pc := 0) hX dX0_isIndex_0 0 rfl ?_
  refine ww_if_lt (pc := 1) (tgt := 13) hX dX0_isIndex_1 (by decide) (fun c1 => ?_) (fun c1 => ?_)
  · refine ww_iconst (pc := 13) (v := bI false) hX dX0_isIndex_13 (by first | decide | rfl) ?_
    exact hret _ _ _ _ (nb_b _) (⟨congrArg bI (decide_eq_false (fun q => q.1 c1)).symm, rfl⟩) dX0_isIndex_14
  · refine ww_iload_n (pc := 4) hX dX0_isIndex_4 0 rfl ?_
    refine ww_iconst (pc := 5) (v := nI 3) hX dX0_isIndex_5 (by decide) ?_
    refine ww_icmp_ge (pc := 6) (tgt := 13) hX dX0_isIndex_6 (by decide) (fun c2 => ?_) (fun c2 => ?_)
    · refine ww_iconst (pc := 13) (v := bI false) hX dX0_isIndex_13 (by first | decide | rfl) ?_
      exact hret _ _ _ _ (nb_b _) (⟨congrArg bI (decide_eq_false (fun q => q.2 c2)).symm, rfl⟩) dX0_isIndex_14
    · refine ww_iconst (pc := 9) (v := bI true) hX dX0_isIndex_9 (by first | decide | rfl) ?_
      refine ww_goto (pc := 10) (tgt := 14) hX dX0_isIndex_10 (by decide) ?_
      exact hret _ _ _ _ (nb_b _) (⟨congrArg bI (decide_eq_true ⟨c1, c2⟩).symm, rfl⟩) dX0_isIndex_14
set_option maxHeartbeats 4000000 in
set_option maxRecDepth 100000 in
/-- holds: the last step on the lock took it -/
theorem xm_holds (t d : Nat) (k : Int32) (hok : pOk P) (ht : t < 3) (hd : d ≤ 4) : MI l D cB cI yX0_holds cX0_holds 7 (some .boolean) 0 0 [.ref (ad 0), .int (nI t), .int (nI d), .int k] (xW ad cB cI P wy pl ac vr sl gd lk fx fv sx sw fo cn qa qb qc qd) (fun r_ w_ => r_ = bI (z_hold P t k d) ∧ w_ = xW ad cB cI P wy pl ac vr sl gd lk fx fv sx sw fo cn qa qb qc qd) := by
  refine MI.of (by decide) (Nat.le_of_ble_eq_true rfl) ?_
  intro X eL eD hX hret
  subst eL; subst eD
  have hX : Fx X cX0_holds RX0 7 0 0 cB cI := hX
  show ww X (xW ad cB cI P wy pl ac vr sl gd lk fx fv sx sw fo cn qa qb qc qd) [(0, .ref (ad 0)), (1, .int (nI t)), (2, .int (nI d)), (3, .int k)] 0 []
  have loop : ∀ n i : Nat, i + n = d → ww X (xW ad cB cI P wy pl ac vr sl gd lk fx fv sx sw fo cn qa qb qc qd) [(0, .ref (ad 0)), (1, .int (nI t)), (2, .int (nI d)), (3, .int k), (4, .int (bI (z_hold P t k i))), (5, .int (nI i))] 6 [] := by
    intro n
    induction n with
    | zero =>
      intro i hi
      refine ww_iload (pc := 6) hX dX0_holds_6 5 rfl ?_
      refine ww_iload_n (pc := 8) hX dX0_holds_8 2 rfl ?_
      refine ww_icmp_geN (pc := 9) (tgt := 66) hX (by omega) (by omega) dX0_holds_9 (by decide) (fun c1 => ?_) (fun c1 => ?_)
      · obtain rfl : i = d := by omega
        refine ww_iload (pc := 66) hX dX0_holds_66 4 rfl ?_
        exact hret _ _ _ _ (nb_b _) (⟨rfl, rfl⟩) dX0_holds_68
      · exact absurd c1 (by omega)
    | succ n ih =>
      intro i hi
      have hk := (hok.2 (t * 4 + i)).1
      refine ww_iload (pc := 6) hX dX0_holds_6 5 rfl ?_
      refine ww_iload_n (pc := 8) hX dX0_holds_8 2 rfl ?_
      refine ww_icmp_geN (pc := 9) (tgt := 66) hX (by omega) (by omega) dX0_holds_9 (by decide) (fun c1 => ?_) (fun c1 => ?_)
      · exact absurd c1 (by omega)
      · refine ww_iload_n (pc := 12) hX dX0_holds_12 1 rfl ?_
        refine ww_iconst (pc := 13) (v := nI 4) hX dX0_holds_13 (by decide) ?_
        refine ww_imulN (pc := 14) hX dX0_holds_14 ?_
        refine ww_iload (pc := 15) hX dX0_holds_15 5 rfl ?_
        refine ww_iaddN (pc := 17) hX dX0_holds_17 ?_
        refine ww_istore (pc := 18) (lv' := [(0, .ref (ad 0)), (1, .int (nI t)), (2, .int (nI d)), (3, .int k), (4, .int (bI (z_hold P t k i))), (5, .int (nI i)), (6, .int (nI ((t * 4) + i)))]) hX dX0_holds_18 (by decide) [1, 2, 3, 4, 5, 6, 0] rfl ?_
        refine ww_aload_n (pc := 20) hX dX0_holds_20 0 rfl ?_
        refine xg_numbers (pc := 21) hX dX0_holds_21 ?_
        refine ww_iload (pc := 24) hX dX0_holds_24 6 rfl ?_
        refine xl_numbers (pc := 26) hX (by omega) dX0_holds_26 ?_
        refine ww_iload_n (pc := 27) hX dX0_holds_27 3 rfl ?_
        refine ww_icmp_ne (pc := 28) (tgt := 60) hX dX0_holds_28 (by decide) (fun c2 => ?_) (fun c2 => ?_)
        · have e_ : z_hold P t k (i + 1) = z_hold P t k i := by rw [z_hold, if_neg (fun q => c2 q.1)]
          refine ww_iincN (pc := 60) (lv' := [(0, .ref (ad 0)), (1, .int (nI t)), (2, .int (nI d)), (3, .int k), (4, .int (bI (z_hold P t k i))), (5, .int (nI (i + 1))), (6, .int (nI ((t * 4) + i)))]) hX dX0_holds_60 5 rfl (by decide) [1, 2, 3, 4, 5, 0, 6] rfl ?_
          refine ww_goto (pc := 63) (tgt := 6) hX dX0_holds_63 (by decide) ?_
          refine ww_sub [0, 1, 2, 3, 4, 5] rfl (lv := [(0, .ref (ad 0)), (1, .int (nI t)), (2, .int (nI d)), (3, .int k), (4, .int (bI (z_hold P t k i))), (5, .int (nI (i + 1)))]) ?_
          have ih_ := ih (i + 1) (by omega)
          rw [e_] at ih_
          exact ih_
        · refine ww_aload_n (pc := 31) hX dX0_holds_31 0 rfl ?_
          refine xg_kinds (pc := 32) hX dX0_holds_32 ?_
          refine ww_iload (pc := 35) hX dX0_holds_35 6 rfl ?_
          refine xl_kinds (pc := 37) hX (by omega) dX0_holds_37 ?_
          refine ww_iconst (pc := 38) (v := nI 4) hX dX0_holds_38 (by decide) ?_
          refine ww_icmp_ltN (pc := 39) (tgt := 60) hX (by omega) (by omega) dX0_holds_39 (by decide) (fun c3 => ?_) (fun c3 => ?_)
          · have e_ : z_hold P t k (i + 1) = z_hold P t k i := by rw [z_hold, if_neg (fun q => by omega)]
            refine ww_iincN (pc := 60) (lv' := [(0, .ref (ad 0)), (1, .int (nI t)), (2, .int (nI d)), (3, .int k), (4, .int (bI (z_hold P t k i))), (5, .int (nI (i + 1))), (6, .int (nI ((t * 4) + i)))]) hX dX0_holds_60 5 rfl (by decide) [1, 2, 3, 4, 5, 0, 6] rfl ?_
            refine ww_goto (pc := 63) (tgt := 6) hX dX0_holds_63 (by decide) ?_
            refine ww_sub [0, 1, 2, 3, 4, 5] rfl (lv := [(0, .ref (ad 0)), (1, .int (nI t)), (2, .int (nI d)), (3, .int k), (4, .int (bI (z_hold P t k i))), (5, .int (nI (i + 1)))]) ?_
            have ih_ := ih (i + 1) (by omega)
            rw [e_] at ih_
            exact ih_
          · refine ww_aload_n (pc := 42) hX dX0_holds_42 0 rfl ?_
            refine xg_kinds (pc := 43) hX dX0_holds_43 ?_
            refine ww_iload (pc := 46) hX dX0_holds_46 6 rfl ?_
            refine xl_kinds (pc := 48) hX (by omega) dX0_holds_48 ?_
            refine ww_iconst (pc := 49) (v := nI 4) hX dX0_holds_49 (by decide) ?_
            refine ww_icmp_neN (pc := 50) (tgt := 57) hX (by omega) (by omega) dX0_holds_50 (by decide) (fun c4 => ?_) (fun c4 => ?_)
            · refine ww_iconst (pc := 57) (v := bI false) hX dX0_holds_57 (by first | decide | rfl) ?_
              refine ww_istore (pc := 58) (lv' := [(0, .ref (ad 0)), (1, .int (nI t)), (2, .int (nI d)), (3, .int k), (4, .int (bI false)), (5, .int (nI i)), (6, .int (nI ((t * 4) + i)))]) hX dX0_holds_58 (by decide) [1, 2, 3, 4, 0, 5, 6] rfl ?_
              have e_ : z_hold P t k (i + 1) = false := by rw [z_hold, if_pos ⟨c2, c3⟩]; exact decide_eq_false c4
              refine ww_iincN (pc := 60) (lv' := [(0, .ref (ad 0)), (1, .int (nI t)), (2, .int (nI d)), (3, .int k), (4, .int (bI false)), (5, .int (nI (i + 1))), (6, .int (nI ((t * 4) + i)))]) hX dX0_holds_60 5 rfl (by decide) [1, 2, 3, 4, 5, 0, 6] rfl ?_
              refine ww_goto (pc := 63) (tgt := 6) hX dX0_holds_63 (by decide) ?_
              refine ww_sub [0, 1, 2, 3, 4, 5] rfl (lv := [(0, .ref (ad 0)), (1, .int (nI t)), (2, .int (nI d)), (3, .int k), (4, .int (bI false)), (5, .int (nI (i + 1)))]) ?_
              have ih_ := ih (i + 1) (by omega)
              rw [e_] at ih_
              exact ih_
            · refine ww_iconst (pc := 53) (v := bI true) hX dX0_holds_53 (by first | decide | rfl) ?_
              refine ww_goto (pc := 54) (tgt := 58) hX dX0_holds_54 (by decide) ?_
              refine ww_istore (pc := 58) (lv' := [(0, .ref (ad 0)), (1, .int (nI t)), (2, .int (nI d)), (3, .int k), (4, .int (bI true)), (5, .int (nI i)), (6, .int (nI ((t * 4) + i)))]) hX dX0_holds_58 (by decide) [1, 2, 3, 4, 0, 5, 6] rfl ?_
              have e_ : z_hold P t k (i + 1) = true := by rw [z_hold, if_pos ⟨c2, c3⟩]; exact decide_eq_true c4
              refine ww_iincN (pc := 60) (lv' := [(0, .ref (ad 0)), (1, .int (nI t)), (2, .int (nI d)), (3, .int k), (4, .int (bI true)), (5, .int (nI (i + 1))), (6, .int (nI ((t * 4) + i)))]) hX dX0_holds_60 5 rfl (by decide) [1, 2, 3, 4, 5, 0, 6] rfl ?_
              refine ww_goto (pc := 63) (tgt := 6) hX dX0_holds_63 (by decide) ?_
              refine ww_sub [0, 1, 2, 3, 4, 5] rfl (lv := [(0, .ref (ad 0)), (1, .int (nI t)), (2, .int (nI d)), (3, .int k), (4, .int (bI true)), (5, .int (nI (i + 1)))]) ?_
              have ih_ := ih (i + 1) (by omega)
              rw [e_] at ih_
              exact ih_
  refine ww_iconst (pc := 0) (v := bI (z_hold P t k 0)) hX dX0_holds_0 (by first | decide | rfl) ?_
  refine ww_istore (pc := 1) (lv' := [(0, .ref (ad 0)), (1, .int (nI t)), (2, .int (nI d)), (3, .int k), (4, .int (bI (z_hold P t k 0)))]) hX dX0_holds_1 (by decide) [1, 2, 3, 4, 0] rfl ?_
  refine ww_iconst (pc := 3) (v := nI 0) hX dX0_holds_3 (by decide) ?_
  refine ww_istore (pc := 4) (lv' := [(0, .ref (ad 0)), (1, .int (nI t)), (2, .int (nI d)), (3, .int k), (4, .int (bI (z_hold P t k 0))), (5, .int (nI 0))]) hX dX0_holds_4 (by decide) [1, 2, 3, 4, 5, 0] rfl ?_
  exact loop d 0 (by omega)
set_option maxHeartbeats 4000000 in
set_option maxRecDepth 100000 in
/-- canTurn -/
theorem xm_canTurn (t : Nat) (a : Nat → Nat) (hok : pOk P) (ht : t < 3) (ha : ∀ i, i < 3 → a i ≤ 4) : MI l D cB cI yX0_canTurn cX0_canTurn 8 (some .boolean) 1 26 [.ref (ad 0), .int (nI t), .int (nI (a 0)), .int (nI (a 1)), .int (nI (a 2))] (xW ad cB cI P wy pl ac vr sl gd lk fx fv sx sw fo cn qa qb qc qd) (fun r_ w_ => r_ = bI (z_can P a t) ∧ w_ = xW ad cB cI P wy pl ac vr sl gd lk fx fv sx sw fo cn qa qb qc qd) := by
  refine MI.of (by decide) (Nat.le_of_ble_eq_true rfl) ?_
  intro X eL eD hX hret
  subst eL; subst eD
  have hX : Fx X cX0_canTurn RX0 8 1 26 cB cI := hX
  show ww X (xW ad cB cI P wy pl ac vr sl gd lk fx fv sx sw fo cn qa qb qc qd) [(0, .ref (ad 0)), (1, .int (nI t)), (2, .int (nI (a 0))), (3, .int (nI (a 1))), (4, .int (nI (a 2)))] 0 []
  have h0 := ha 0 (by decide)
  have h1 := ha 1 (by decide)
  have h2 := ha 2 (by decide)
  have h3 := ha t ht
  have hs := hok.1 t
  have hk := (hok.2 (t * 4 + a t)).1
  have J19 : ww X (xW ad cB cI P wy pl ac vr sl gd lk fx fv sx sw fo cn qa qb qc qd) [(0, .ref (ad 0)), (1, .int (nI t)), (2, .int (nI (a 0))), (3, .int (nI (a 1))), (4, .int (nI (a 2)))] 19 [.int (nI (a t))] := by
    refine ww_istore (pc := 19) (lv' := [(0, .ref (ad 0)), (1, .int (nI t)), (2, .int (nI (a 0))), (3, .int (nI (a 1))), (4, .int (nI (a 2))), (5, .int (nI (a t)))]) hX dX0_canTurn_19 (by decide) [1, 2, 3, 4, 5, 0] rfl ?_
    refine ww_iload (pc := 21) hX dX0_canTurn_21 5 rfl ?_
    refine ww_aload_n (pc := 23) hX dX0_canTurn_23 0 rfl ?_
    refine xg_sizes (pc := 24) hX dX0_canTurn_24 ?_
    refine ww_iload_n (pc := 27) hX dX0_canTurn_27 1 rfl ?_
    refine xl_sizes (pc := 28) hX (by omega) dX0_canTurn_28 ?_
    refine ww_icmp_ltN (pc := 29) (tgt := 34) hX (by omega) (by omega) dX0_canTurn_29 (by decide) (fun c1 => ?_) (fun c1 => ?_)
    · refine ww_iload_n (pc := 34) hX dX0_canTurn_34 1 rfl ?_
      refine ww_iconst (pc := 35) (v := nI 4) hX dX0_canTurn_35 (by decide) ?_
      refine ww_imulN (pc := 36) hX dX0_canTurn_36 ?_
      refine ww_iload (pc := 37) hX dX0_canTurn_37 5 rfl ?_
      refine ww_iaddN (pc := 39) hX dX0_canTurn_39 ?_
      refine ww_istore (pc := 40) (lv' := [(0, .ref (ad 0)), (1, .int (nI t)), (2, .int (nI (a 0))), (3, .int (nI (a 1))), (4, .int (nI (a 2))), (5, .int (nI (a t))), (6, .int (nI ((t * 4) + (a t))))]) hX dX0_canTurn_40 (by decide) [1, 2, 3, 4, 5, 6, 0] rfl ?_
      refine ww_aload_n (pc := 42) hX dX0_canTurn_42 0 rfl ?_
      refine xg_kinds (pc := 43) hX dX0_canTurn_43 ?_
      refine ww_iload (pc := 46) hX dX0_canTurn_46 6 rfl ?_
      refine xl_kinds (pc := 48) hX (by omega) dX0_canTurn_48 ?_
      refine ww_iconst (pc := 49) (v := nI 4) hX dX0_canTurn_49 (by decide) ?_
      refine ww_icmp_eqN (pc := 50) (tgt := 55) hX (by omega) (by omega) dX0_canTurn_50 (by decide) (fun c2 => ?_) (fun c2 => ?_)
      · refine ww_aload_n (pc := 55) hX dX0_canTurn_55 0 rfl ?_
        refine xg_numbers (pc := 56) hX dX0_canTurn_56 ?_
        refine ww_iload (pc := 59) hX dX0_canTurn_59 6 rfl ?_
        refine xl_numbers (pc := 61) hX (by omega) dX0_canTurn_61 ?_
        refine ww_istore (pc := 62) (lv' := [(0, .ref (ad 0)), (1, .int (nI t)), (2, .int (nI (a 0))), (3, .int (nI (a 1))), (4, .int (nI (a 2))), (5, .int (nI (a t))), (6, .int (nI ((t * 4) + (a t)))), (7, .int ((pN P) ((t * 4) + (a t))))]) hX dX0_canTurn_62 (by decide) [1, 2, 3, 4, 5, 6, 7, 0] rfl ?_
        refine ww_aload_n (pc := 64) hX dX0_canTurn_64 0 rfl ?_
        refine ww_iconst (pc := 65) (v := nI 0) hX dX0_canTurn_65 (by decide) ?_
        refine ww_iload_n (pc := 66) hX dX0_canTurn_66 2 rfl ?_
        refine ww_iload (pc := 67) hX dX0_canTurn_67 7 rfl ?_
        refine ww_callI (pc := 69) (n := 3) (rest := []) hX (xm_holds 0 (a 0) _ hok (by decide) (by omega)) (lw_V q131 q133 qs2 q21 q134) (by decide +kernel) rfl ⟨by decide, by decide⟩ 0 0 rfl rfl rfl (Nat.le_of_ble_eq_true rfl) dX0_canTurn_69 (fun r_ w_ hq_ => ?_)
        obtain ⟨rfl, rfl⟩ := hq_
        refine ww_if_neB (pc := 72) (tgt := 102) hX dX0_canTurn_72 (by decide) (fun d0 => ?_) (fun d0 => ?_)
        · refine ww_iconst (pc := 102) (v := bI false) hX dX0_canTurn_102 (by first | decide | rfl) ?_
          exact hret _ _ _ _ (nb_b _) (⟨congrArg bI (Eq.symm (by rw [z_can, decide_eq_true c1, decide_eq_false (fun q => q c2), d0]; rfl)), rfl⟩) dX0_canTurn_103
        · refine ww_aload_n (pc := 75) hX dX0_canTurn_75 0 rfl ?_
          refine ww_iconst (pc := 76) (v := nI 1) hX dX0_canTurn_76 (by decide) ?_
          refine ww_iload_n (pc := 77) hX dX0_canTurn_77 3 rfl ?_
          refine ww_iload (pc := 78) hX dX0_canTurn_78 7 rfl ?_
          refine ww_callI (pc := 80) (n := 3) (rest := []) hX (xm_holds 1 (a 1) _ hok (by decide) (by omega)) (lw_V q131 q133 qs2 q21 q134) (by decide +kernel) rfl ⟨by decide, by decide⟩ 0 0 rfl rfl rfl (Nat.le_of_ble_eq_true rfl) dX0_canTurn_80 (fun r_ w_ hq_ => ?_)
          obtain ⟨rfl, rfl⟩ := hq_
          refine ww_if_neB (pc := 83) (tgt := 102) hX dX0_canTurn_83 (by decide) (fun d1 => ?_) (fun d1 => ?_)
          · refine ww_iconst (pc := 102) (v := bI false) hX dX0_canTurn_102 (by first | decide | rfl) ?_
            exact hret _ _ _ _ (nb_b _) (⟨congrArg bI (Eq.symm (by rw [z_can, decide_eq_true c1, decide_eq_false (fun q => q c2), d0, d1]; rfl)), rfl⟩) dX0_canTurn_103
          · refine ww_aload_n (pc := 86) hX dX0_canTurn_86 0 rfl ?_
            refine ww_iconst (pc := 87) (v := nI 2) hX dX0_canTurn_87 (by decide) ?_
            refine ww_iload (pc := 88) hX dX0_canTurn_88 4 rfl ?_
            refine ww_iload (pc := 90) hX dX0_canTurn_90 7 rfl ?_
            refine ww_callI (pc := 92) (n := 3) (rest := []) hX (xm_holds 2 (a 2) _ hok (by decide) (by omega)) (lw_V q131 q133 qs2 q21 q134) (by decide +kernel) rfl ⟨by decide, by decide⟩ 0 0 rfl rfl rfl (Nat.le_of_ble_eq_true rfl) dX0_canTurn_92 (fun r_ w_ hq_ => ?_)
            obtain ⟨rfl, rfl⟩ := hq_
            refine ww_if_neB (pc := 95) (tgt := 102) hX dX0_canTurn_95 (by decide) (fun d2 => ?_) (fun d2 => ?_)
            · refine ww_iconst (pc := 102) (v := bI false) hX dX0_canTurn_102 (by first | decide | rfl) ?_
              exact hret _ _ _ _ (nb_b _) (⟨congrArg bI (Eq.symm (by rw [z_can, decide_eq_true c1, decide_eq_false (fun q => q c2), d0, d1, d2]; rfl)), rfl⟩) dX0_canTurn_103
            · refine ww_iconst (pc := 98) (v := bI true) hX dX0_canTurn_98 (by first | decide | rfl) ?_
              refine ww_goto (pc := 99) (tgt := 103) hX dX0_canTurn_99 (by decide) ?_
              exact hret _ _ _ _ (nb_b _) (⟨congrArg bI (Eq.symm (by rw [z_can, decide_eq_true c1, decide_eq_false (fun q => q c2), d0, d1, d2]; rfl)), rfl⟩) dX0_canTurn_103
      · refine ww_iconst (pc := 53) (v := bI true) hX dX0_canTurn_53 (by first | decide | rfl) ?_
        exact hret _ _ _ _ (nb_b _) (⟨congrArg bI (Eq.symm (by rw [z_can, decide_eq_true c1, decide_eq_true c2]; rfl)), rfl⟩) dX0_canTurn_54
    · refine ww_iconst (pc := 32) (v := bI false) hX dX0_canTurn_32 (by first | decide | rfl) ?_
      exact hret _ _ _ _ (nb_b _) (⟨congrArg bI (Eq.symm (by rw [z_can, decide_eq_false (Nat.not_lt.mpr c1)]; rfl)), rfl⟩) dX0_canTurn_33
  refine ww_iload_n (pc := 0) hX dX0_canTurn_0 1 rfl ?_
  refine ww_if_neN (pc := 1) (tgt := 8) hX (by omega) dX0_canTurn_1 (by decide) (fun c1 => ?_) (fun c1 => ?_)
  · refine ww_iload_n (pc := 8) hX dX0_canTurn_8 1 rfl ?_
    refine ww_iconst (pc := 9) (v := nI 1) hX dX0_canTurn_9 (by decide) ?_
    refine ww_icmp_neN (pc := 10) (tgt := 17) hX (by omega) (by omega) dX0_canTurn_10 (by decide) (fun c2 => ?_) (fun c2 => ?_)
    · refine ww_iload (pc := 17) hX dX0_canTurn_17 4 rfl ?_
      have e_ : a t = a 2 := by rw [show t = 2 by omega]
      rw [e_] at J19
      exact J19
    · refine ww_iload_n (pc := 13) hX dX0_canTurn_13 3 rfl ?_
      refine ww_goto (pc := 14) (tgt := 19) hX dX0_canTurn_14 (by decide) ?_
      have e_ : a t = a 1 := by rw [show t = 1 by omega]
      rw [e_] at J19
      exact J19
  · refine ww_iload_n (pc := 4) hX dX0_canTurn_4 2 rfl ?_
    refine ww_goto (pc := 5) (tgt := 19) hX dX0_canTurn_5 (by decide) ?_
    have e_ : a t = a 0 := by rw [show t = 0 by omega]
    rw [e_] at J19
    exact J19
set_option maxHeartbeats 4000000 in
set_option maxRecDepth 100000 in
/-- touch -/
theorem xm_touch (i j : Nat) (hok : pOk P) (hi : i < 12) (hj : j < 12) : MI l D cB cI yX0_touch cX0_touch 5 (some .boolean) 0 0 [.ref (ad 0), .int (nI i), .int (nI j)] (xW ad cB cI P wy pl ac vr sl gd lk fx fv sx sw fo cn qa qb qc qd) (fun r_ w_ => r_ = bI (z_tch P i j) ∧ w_ = xW ad cB cI P wy pl ac vr sl gd lk fx fv sx sw fo cn qa qb qc qd) := by
  refine MI.of (by decide) (Nat.le_of_ble_eq_true rfl) ?_
  intro X eL eD hX hret
  subst eL; subst eD
  have hX : Fx X cX0_touch RX0 5 0 0 cB cI := hX
  show ww X (xW ad cB cI P wy pl ac vr sl gd lk fx fv sx sw fo cn qa qb qc qd) [(0, .ref (ad 0)), (1, .int (nI i)), (2, .int (nI j))] 0 []
  have hki := (hok.2 i).1
  have hkj := (hok.2 j).1
  refine ww_aload_n (pc := 0) hX dX0_touch_0 0 rfl ?_
  refine xg_kinds (pc := 1) hX dX0_touch_1 ?_
  refine ww_iload_n (pc := 4) hX dX0_touch_4 1 rfl ?_
  refine xl_kinds (pc := 5) hX (by omega) dX0_touch_5 ?_
  refine ww_iconst (pc := 6) (v := nI 3) hX dX0_touch_6 (by decide) ?_
  refine ww_icmp_eqN (pc := 7) (tgt := 35) hX (by omega) (by omega) dX0_touch_7 (by decide) (fun c1 => ?_) (fun c1 => ?_)
  · refine ww_iconst (pc := 35) (v := bI false) hX dX0_touch_35 (by first | decide | rfl) ?_
    exact hret _ _ _ _ (nb_b _) (⟨congrArg bI (decide_eq_false (fun q => by have q2 := q.2; omega)).symm, rfl⟩) dX0_touch_36
  · refine ww_aload_n (pc := 10) hX dX0_touch_10 0 rfl ?_
    refine xg_kinds (pc := 11) hX dX0_touch_11 ?_
    refine ww_iload_n (pc := 14) hX dX0_touch_14 2 rfl ?_
    refine xl_kinds (pc := 15) hX (by omega) dX0_touch_15 ?_
    refine ww_iconst (pc := 16) (v := nI 3) hX dX0_touch_16 (by decide) ?_
    refine ww_icmp_eqN (pc := 17) (tgt := 35) hX (by omega) (by omega) dX0_touch_17 (by decide) (fun c2 => ?_) (fun c2 => ?_)
    · refine ww_iconst (pc := 35) (v := bI false) hX dX0_touch_35 (by first | decide | rfl) ?_
      exact hret _ _ _ _ (nb_b _) (⟨congrArg bI (decide_eq_false (fun q => by have q2 := q.2; omega)).symm, rfl⟩) dX0_touch_36
    · refine ww_aload_n (pc := 20) hX dX0_touch_20 0 rfl ?_
      refine xg_numbers (pc := 21) hX dX0_touch_21 ?_
      refine ww_iload_n (pc := 24) hX dX0_touch_24 1 rfl ?_
      refine xl_numbers (pc := 25) hX (by omega) dX0_touch_25 ?_
      refine ww_aload_n (pc := 26) hX dX0_touch_26 0 rfl ?_
      refine xg_numbers (pc := 27) hX dX0_touch_27 ?_
      refine ww_iload_n (pc := 30) hX dX0_touch_30 2 rfl ?_
      refine xl_numbers (pc := 31) hX (by omega) dX0_touch_31 ?_
      refine ww_icmp_eq (pc := 32) (tgt := 37) hX dX0_touch_32 (by decide) (fun c3 => ?_) (fun c3 => ?_)
      · refine ww_aload_n (pc := 37) hX dX0_touch_37 0 rfl ?_
        refine xg_kinds (pc := 38) hX dX0_touch_38 ?_
        refine ww_iload_n (pc := 41) hX dX0_touch_41 1 rfl ?_
        refine xl_kinds (pc := 42) hX (by omega) dX0_touch_42 ?_
        refine ww_iconst (pc := 43) (v := nI 4) hX dX0_touch_43 (by decide) ?_
        refine ww_icmp_ltN (pc := 44) (tgt := 51) hX (by omega) (by omega) dX0_touch_44 (by decide) (fun c4 => ?_) (fun c4 => ?_)
        · refine ww_iconst (pc := 51) (v := nI 0) hX dX0_touch_51 (by first | decide | rfl) ?_
          refine ww_istore_n (pc := 52) (lv' := [(0, .ref (ad 0)), (1, .int (nI i)), (2, .int (nI j)), (3, .int (nI 0))]) hX dX0_touch_52 (by decide) [1, 2, 3, 0] rfl ?_
          refine ww_aload_n (pc := 53) hX dX0_touch_53 0 rfl ?_
          refine xg_kinds (pc := 54) hX dX0_touch_54 ?_
          refine ww_iload_n (pc := 57) hX dX0_touch_57 2 rfl ?_
          refine xl_kinds (pc := 58) hX (by omega) dX0_touch_58 ?_
          refine ww_iconst (pc := 59) (v := nI 4) hX dX0_touch_59 (by decide) ?_
          refine ww_icmp_ltN (pc := 60) (tgt := 67) hX (by omega) (by omega) dX0_touch_60 (by decide) (fun c5 => ?_) (fun c5 => ?_)
          · refine ww_iconst (pc := 67) (v := nI 0) hX dX0_touch_67 (by first | decide | rfl) ?_
            refine ww_istore (pc := 68) (lv' := [(0, .ref (ad 0)), (1, .int (nI i)), (2, .int (nI j)), (3, .int (nI 0)), (4, .int (nI 0))]) hX dX0_touch_68 (by decide) [1, 2, 3, 4, 0] rfl ?_
            refine ww_iload_n (pc := 70) hX dX0_touch_70 3 rfl ?_
            refine ww_iload (pc := 71) hX dX0_touch_71 4 rfl ?_
            refine ww_icmp_neN (pc := 73) (tgt := 102) hX (by omega) (by omega) dX0_touch_73 (by decide) (fun c6 => ?_) (fun c6 => ?_)
            · exact absurd rfl c6
            · refine ww_iload_n (pc := 76) hX dX0_touch_76 3 rfl ?_
              refine ww_if_neN (pc := 77) (tgt := 98) hX (by omega) dX0_touch_77 (by decide) (fun c7 => ?_) (fun c7 => ?_)
              · exact absurd rfl c7
              · refine ww_aload_n (pc := 80) hX dX0_touch_80 0 rfl ?_
                refine xg_kinds (pc := 81) hX dX0_touch_81 ?_
                refine ww_iload_n (pc := 84) hX dX0_touch_84 1 rfl ?_
                refine xl_kinds (pc := 85) hX (by omega) dX0_touch_85 ?_
                refine ww_if_neN (pc := 86) (tgt := 98) hX (by omega) dX0_touch_86 (by decide) (fun c8 => ?_) (fun c8 => ?_)
                · refine ww_iconst (pc := 98) (v := bI true) hX dX0_touch_98 (by first | decide | rfl) ?_
                  refine ww_goto (pc := 99) (tgt := 103) hX dX0_touch_99 (by decide) ?_
                  exact hret _ _ _ _ (nb_b _) (⟨congrArg bI (decide_eq_true (⟨c3, by omega⟩)).symm, rfl⟩) dX0_touch_103
                · refine ww_aload_n (pc := 89) hX dX0_touch_89 0 rfl ?_
                  refine xg_kinds (pc := 90) hX dX0_touch_90 ?_
                  refine ww_iload_n (pc := 93) hX dX0_touch_93 2 rfl ?_
                  refine xl_kinds (pc := 94) hX (by omega) dX0_touch_94 ?_
                  refine ww_if_eqN (pc := 95) (tgt := 102) hX (by omega) dX0_touch_95 (by decide) (fun c9 => ?_) (fun c9 => ?_)
                  · refine ww_iconst (pc := 102) (v := bI false) hX dX0_touch_102 (by first | decide | rfl) ?_
                    exact hret _ _ _ _ (nb_b _) (⟨congrArg bI (decide_eq_false (fun q => by have q2 := q.2; omega)).symm, rfl⟩) dX0_touch_103
                  · refine ww_iconst (pc := 98) (v := bI true) hX dX0_touch_98 (by first | decide | rfl) ?_
                    refine ww_goto (pc := 99) (tgt := 103) hX dX0_touch_99 (by decide) ?_
                    exact hret _ _ _ _ (nb_b _) (⟨congrArg bI (decide_eq_true (⟨c3, by omega⟩)).symm, rfl⟩) dX0_touch_103
          · refine ww_iconst (pc := 63) (v := nI 1) hX dX0_touch_63 (by first | decide | rfl) ?_
            refine ww_goto (pc := 64) (tgt := 68) hX dX0_touch_64 (by decide) ?_
            refine ww_istore (pc := 68) (lv' := [(0, .ref (ad 0)), (1, .int (nI i)), (2, .int (nI j)), (3, .int (nI 0)), (4, .int (nI 1))]) hX dX0_touch_68 (by decide) [1, 2, 3, 4, 0] rfl ?_
            refine ww_iload_n (pc := 70) hX dX0_touch_70 3 rfl ?_
            refine ww_iload (pc := 71) hX dX0_touch_71 4 rfl ?_
            refine ww_icmp_neN (pc := 73) (tgt := 102) hX (by omega) (by omega) dX0_touch_73 (by decide) (fun c6 => ?_) (fun c6 => ?_)
            · refine ww_iconst (pc := 102) (v := bI false) hX dX0_touch_102 (by first | decide | rfl) ?_
              exact hret _ _ _ _ (nb_b _) (⟨congrArg bI (decide_eq_false (fun q => by have q2 := q.2; omega)).symm, rfl⟩) dX0_touch_103
            · exact absurd c6 (by decide)
        · refine ww_iconst (pc := 47) (v := nI 1) hX dX0_touch_47 (by first | decide | rfl) ?_
          refine ww_goto (pc := 48) (tgt := 52) hX dX0_touch_48 (by decide) ?_
          refine ww_istore_n (pc := 52) (lv' := [(0, .ref (ad 0)), (1, .int (nI i)), (2, .int (nI j)), (3, .int (nI 1))]) hX dX0_touch_52 (by decide) [1, 2, 3, 0] rfl ?_
          refine ww_aload_n (pc := 53) hX dX0_touch_53 0 rfl ?_
          refine xg_kinds (pc := 54) hX dX0_touch_54 ?_
          refine ww_iload_n (pc := 57) hX dX0_touch_57 2 rfl ?_
          refine xl_kinds (pc := 58) hX (by omega) dX0_touch_58 ?_
          refine ww_iconst (pc := 59) (v := nI 4) hX dX0_touch_59 (by decide) ?_
          refine ww_icmp_ltN (pc := 60) (tgt := 67) hX (by omega) (by omega) dX0_touch_60 (by decide) (fun c5 => ?_) (fun c5 => ?_)
          · refine ww_iconst (pc := 67) (v := nI 0) hX dX0_touch_67 (by first | decide | rfl) ?_
            refine ww_istore (pc := 68) (lv' := [(0, .ref (ad 0)), (1, .int (nI i)), (2, .int (nI j)), (3, .int (nI 1)), (4, .int (nI 0))]) hX dX0_touch_68 (by decide) [1, 2, 3, 4, 0] rfl ?_
            refine ww_iload_n (pc := 70) hX dX0_touch_70 3 rfl ?_
            refine ww_iload (pc := 71) hX dX0_touch_71 4 rfl ?_
            refine ww_icmp_neN (pc := 73) (tgt := 102) hX (by omega) (by omega) dX0_touch_73 (by decide) (fun c6 => ?_) (fun c6 => ?_)
            · refine ww_iconst (pc := 102) (v := bI false) hX dX0_touch_102 (by first | decide | rfl) ?_
              exact hret _ _ _ _ (nb_b _) (⟨congrArg bI (decide_eq_false (fun q => by have q2 := q.2; omega)).symm, rfl⟩) dX0_touch_103
            · exact absurd c6 (by decide)
          · refine ww_iconst (pc := 63) (v := nI 1) hX dX0_touch_63 (by first | decide | rfl) ?_
            refine ww_goto (pc := 64) (tgt := 68) hX dX0_touch_64 (by decide) ?_
            refine ww_istore (pc := 68) (lv' := [(0, .ref (ad 0)), (1, .int (nI i)), (2, .int (nI j)), (3, .int (nI 1)), (4, .int (nI 1))]) hX dX0_touch_68 (by decide) [1, 2, 3, 4, 0] rfl ?_
            refine ww_iload_n (pc := 70) hX dX0_touch_70 3 rfl ?_
            refine ww_iload (pc := 71) hX dX0_touch_71 4 rfl ?_
            refine ww_icmp_neN (pc := 73) (tgt := 102) hX (by omega) (by omega) dX0_touch_73 (by decide) (fun c6 => ?_) (fun c6 => ?_)
            · exact absurd rfl c6
            · refine ww_iload_n (pc := 76) hX dX0_touch_76 3 rfl ?_
              refine ww_if_neN (pc := 77) (tgt := 98) hX (by omega) dX0_touch_77 (by decide) (fun c7 => ?_) (fun c7 => ?_)
              · refine ww_iconst (pc := 98) (v := bI true) hX dX0_touch_98 (by first | decide | rfl) ?_
                refine ww_goto (pc := 99) (tgt := 103) hX dX0_touch_99 (by decide) ?_
                exact hret _ _ _ _ (nb_b _) (⟨congrArg bI (decide_eq_true (⟨c3, by omega⟩)).symm, rfl⟩) dX0_touch_103
              · exact absurd c7 (by decide)
      · refine ww_iconst (pc := 35) (v := bI false) hX dX0_touch_35 (by first | decide | rfl) ?_
        exact hret _ _ _ _ (nb_b _) (⟨congrArg bI (decide_eq_false (fun q => c3 q.1)).symm, rfl⟩) dX0_touch_36
set_option maxHeartbeats 4000000 in
set_option maxRecDepth 100000 in
/-- stride -/
theorem xm_stride (t : Nat) {w : va_W} (ht : t < 3) : MI l D cB cI yX0_stride cX0_stride 1 (some .int) 0 0 [.int (nI t)] (w) (fun r_ w_ => r_ = nI (z_std t) ∧ w_ = w) := by
  refine MI.of (by decide) (Nat.le_of_ble_eq_true rfl) ?_
  intro X eL eD hX hret
  subst eL; subst eD
  have hX : Fx X cX0_stride RX0 1 0 0 cB cI := hX
  show ww X (w) [(0, .int (nI t))] 0 []
  refine ww_iload_n (pc := 0) hX dX0_stride_0 0 rfl ?_
  refine ww_if_neN (pc := 1) (tgt := 7) hX (by omega) dX0_stride_1 (by decide) (fun c1 => ?_) (fun c1 => ?_)
  · refine ww_iload_n (pc := 7) hX dX0_stride_7 0 rfl ?_
    refine ww_iconst (pc := 8) (v := nI 1) hX dX0_stride_8 (by decide) ?_
    refine ww_icmp_neN (pc := 9) (tgt := 16) hX (by omega) (by omega) dX0_stride_9 (by decide) (fun c2 => ?_) (fun c2 => ?_)
    · refine ww_iconst (pc := 16) (v := nI 1) hX dX0_stride_16 (by decide) ?_
      exact hret _ _ _ _ (rfl) (⟨by rw [z_std, if_neg c1, if_neg c2], rfl⟩) dX0_stride_17
    · refine ww_iconst (pc := 12) (v := nI 5) hX dX0_stride_12 (by decide) ?_
      refine ww_goto (pc := 13) (tgt := 17) hX dX0_stride_13 (by decide) ?_
      exact hret _ _ _ _ (rfl) (⟨by rw [z_std, if_neg c1, if_pos c2], rfl⟩) dX0_stride_17
  · refine ww_bipush (pc := 4) (v := nI 25) hX dX0_stride_4 (by decide) ?_
    exact hret _ _ _ _ (rfl) (⟨by rw [z_std, if_pos c1], rfl⟩) dX0_stride_6
theorem z_bit {m t : Nat} (hm : m < 8) (ht : t < 3) : ((nI m >>> (nI t &&& 31)) &&& nI 1 = 0) ↔ z_tb m t = false := by
  have : ∀ m, m < 8 → ∀ t, t < 3 → (((nI m >>> (nI t &&& 31)) &&& nI 1 = 0) ↔ z_tb m t = false) := by decide +kernel
  exact this m hm t ht
def z_ntI (o : Option Nat) : Int32 := match o with
  | some t => nI t
  | none => -1
set_option maxHeartbeats 4000000 in
set_option maxRecDepth 100000 in
/-- nextThread: the least of the set, or -1 -/
theorem xm_nextThread (m : Nat) {w : va_W} (hm : m < 8) : MI l D cB cI yX0_nextThread cX0_nextThread 2 (some .int) 0 0 [.int (nI m)] (w) (fun r_ w_ => r_ = z_ntI (z_fst (z_tb m)) ∧ w_ = w) := by
  refine MI.of (by decide) (Nat.le_of_ble_eq_true rfl) ?_
  intro X eL eD hX hret
  subst eL; subst eD
  have hX : Fx X cX0_nextThread RX0 2 0 0 cB cI := hX
  show ww X (w) [(0, .int (nI m))] 0 []
  refine ww_iconst (pc := 0) (v := nI 0) hX dX0_nextThread_0 (by decide) ?_
  refine ww_istore_n (pc := 1) (lv' := [(0, .int (nI m)), (1, .int (nI 0))]) hX dX0_nextThread_1 (by decide) [1, 0] rfl ?_
  refine ww_iload_n (pc := 2) hX dX0_nextThread_2 1 rfl ?_
  refine ww_iconst (pc := 3) (v := nI 3) hX dX0_nextThread_3 (by decide) ?_
  refine ww_icmp_geN (pc := 4) (tgt := 23) hX (by omega) (by omega) dX0_nextThread_4 (by decide) (fun c0 => ?_) (fun c0 => ?_)
  · exact absurd c0 (by omega)
  · refine ww_iload_n (pc := 7) hX dX0_nextThread_7 0 rfl ?_
    refine ww_iload_n (pc := 8) hX dX0_nextThread_8 1 rfl ?_
    refine ww_ishr (pc := 9) hX dX0_nextThread_9 ?_
    refine ww_iconst (pc := 10) (v := nI 1) hX dX0_nextThread_10 (by decide) ?_
    refine ww_iand (pc := 11) hX dX0_nextThread_11 ?_
    refine ww_if_eq (pc := 12) (tgt := 17) hX dX0_nextThread_12 (by decide) (fun b0 => ?_) (fun b0 => ?_)
    · have e0 : z_tb m 0 = false := (z_bit hm (by decide)).mp b0
      refine ww_iincN (pc := 17) (lv' := [(0, .int (nI m)), (1, .int (nI (0 + 1)))]) hX dX0_nextThread_17 1 rfl (by decide) [1, 0] rfl ?_
      refine ww_goto (pc := 20) (tgt := 2) hX dX0_nextThread_20 (by decide) ?_
      refine ww_iload_n (pc := 2) hX dX0_nextThread_2 1 rfl ?_
      refine ww_iconst (pc := 3) (v := nI 3) hX dX0_nextThread_3 (by decide) ?_
      refine ww_icmp_geN (pc := 4) (tgt := 23) hX (by omega) (by omega) dX0_nextThread_4 (by decide) (fun c0 => ?_) (fun c0 => ?_)
      · exact absurd c0 (by omega)
      · refine ww_iload_n (pc := 7) hX dX0_nextThread_7 0 rfl ?_
        refine ww_iload_n (pc := 8) hX dX0_nextThread_8 1 rfl ?_
        refine ww_ishr (pc := 9) hX dX0_nextThread_9 ?_
        refine ww_iconst (pc := 10) (v := nI 1) hX dX0_nextThread_10 (by decide) ?_
        refine ww_iand (pc := 11) hX dX0_nextThread_11 ?_
        refine ww_if_eq (pc := 12) (tgt := 17) hX dX0_nextThread_12 (by decide) (fun b1 => ?_) (fun b1 => ?_)
        · have e1 : z_tb m 1 = false := (z_bit hm (by decide)).mp b1
          refine ww_iincN (pc := 17) (lv' := [(0, .int (nI m)), (1, .int (nI ((0 + 1) + 1)))]) hX dX0_nextThread_17 1 rfl (by decide) [1, 0] rfl ?_
          refine ww_goto (pc := 20) (tgt := 2) hX dX0_nextThread_20 (by decide) ?_
          refine ww_iload_n (pc := 2) hX dX0_nextThread_2 1 rfl ?_
          refine ww_iconst (pc := 3) (v := nI 3) hX dX0_nextThread_3 (by decide) ?_
          refine ww_icmp_geN (pc := 4) (tgt := 23) hX (by omega) (by omega) dX0_nextThread_4 (by decide) (fun c0 => ?_) (fun c0 => ?_)
          · exact absurd c0 (by omega)
          · refine ww_iload_n (pc := 7) hX dX0_nextThread_7 0 rfl ?_
            refine ww_iload_n (pc := 8) hX dX0_nextThread_8 1 rfl ?_
            refine ww_ishr (pc := 9) hX dX0_nextThread_9 ?_
            refine ww_iconst (pc := 10) (v := nI 1) hX dX0_nextThread_10 (by decide) ?_
            refine ww_iand (pc := 11) hX dX0_nextThread_11 ?_
            refine ww_if_eq (pc := 12) (tgt := 17) hX dX0_nextThread_12 (by decide) (fun b2 => ?_) (fun b2 => ?_)
            · have e2 : z_tb m 2 = false := (z_bit hm (by decide)).mp b2
              refine ww_iincN (pc := 17) (lv' := [(0, .int (nI m)), (1, .int (nI (((0 + 1) + 1) + 1)))]) hX dX0_nextThread_17 1 rfl (by decide) [1, 0] rfl ?_
              refine ww_goto (pc := 20) (tgt := 2) hX dX0_nextThread_20 (by decide) ?_
              refine ww_iload_n (pc := 2) hX dX0_nextThread_2 1 rfl ?_
              refine ww_iconst (pc := 3) (v := nI 3) hX dX0_nextThread_3 (by decide) ?_
              refine ww_icmp_geN (pc := 4) (tgt := 23) hX (by omega) (by omega) dX0_nextThread_4 (by decide) (fun c0 => ?_) (fun c0 => ?_)
              · refine ww_iconst (pc := 23) (v := -1) hX dX0_nextThread_23 (by decide) ?_
                exact hret _ _ _ _ (rfl) (⟨by rw [z_fst, e0, e1, e2]; rfl, rfl⟩) dX0_nextThread_24
              · exact absurd c0 (by omega)
            · have e2 : z_tb m 2 = true := by
                cases h : z_tb m 2
                · exact absurd ((z_bit hm (by decide)).mpr h) b2
                · rfl
              refine ww_iload_n (pc := 15) hX dX0_nextThread_15 1 rfl ?_
              exact hret _ _ _ _ (rfl) (⟨by rw [z_fst, e0, e1, e2]; rfl, rfl⟩) dX0_nextThread_16
        · have e1 : z_tb m 1 = true := by
            cases h : z_tb m 1
            · exact absurd ((z_bit hm (by decide)).mpr h) b1
            · rfl
          refine ww_iload_n (pc := 15) hX dX0_nextThread_15 1 rfl ?_
          exact hret _ _ _ _ (rfl) (⟨by rw [z_fst, e0, e1]; rfl, rfl⟩) dX0_nextThread_16
    · have e0 : z_tb m 0 = true := by
        cases h : z_tb m 0
        · exact absurd ((z_bit hm (by decide)).mpr h) b0
        · rfl
      refine ww_iload_n (pc := 15) hX dX0_nextThread_15 1 rfl ?_
      exact hret _ _ _ _ (rfl) (⟨by rw [z_fst, e0]; rfl, rfl⟩) dX0_nextThread_16
end XA
end
section
section XB
variable {l : Launch} {D : va_G} {cB cI : ClassId} {ad : Nat → Nat} {P : Pg} {wy pl : Nat → Nat} {ac vr : Nat → Int32} {sl gd : Nat → Nat} {lk : Bool} {fx : Nat} {fv : Int32} {sx : Nat} {sw : Int32} {fo : Bool} {cn : Nat} {qa qb qc qd : Nat → Int32}
def z_mt (f : Nat → Bool) : Nat → Nat
  | 0 => 0
  | i + 1 => z_mt f i + (if f i then 2 ^ i else 0)
theorem z_mt_lt (f : Nat → Bool) : ∀ i, z_mt f i < 2 ^ i
  | 0 => by rw [z_mt]; decide
  | i + 1 => by
    have h := z_mt_lt f i
    rw [z_mt, Nat.pow_succ]
    split <;> omega
theorem z_mt3 (f : Nat → Bool) : z_mt f 3 = z_mk f := by
  rw [z_mt, z_mt, z_mt, z_mt, z_mk, Nat.zero_add]
theorem z_mk_lt (f : Nat → Bool) : z_mk f < 8 := by rw [← z_mt3]; exact z_mt_lt f 3
theorem z_or {i m : Nat} (hi : i < 3) (hm : m < 2 ^ i) : nI m ||| (nI 1 <<< (nI i &&& 31)) = nI (m + 2 ^ i) := by
  have : ∀ i, i < 3 → ∀ m, m < 8 → m < 2 ^ i → nI m ||| (nI 1 <<< (nI i &&& 31)) = nI (m + 2 ^ i) := by decide +kernel
  refine this i hi m ?_ hm
  have h : 2 ^ i ≤ 2 ^ 3 := Nat.pow_le_pow_right (by decide) (by omega)
  omega
set_option maxHeartbeats 4000000 in
set_option maxRecDepth 100000 in
/-- enabled: the set of threads that can have a turn -/
theorem xm_enabled (L : Nat) (hok : pOk P) (hL : L ≤ 12) (hp : ∀ i, i < 3 → pl (L * 3 + i) ≤ 4) : MI l D cB cI yX0_enabled cX0_enabled 4 (some .int) 2 53 [.ref (ad 0), .int (nI L)] (xW ad cB cI P wy pl ac vr sl gd lk fx fv sx sw fo cn qa qb qc qd) (fun r_ w_ => r_ = nI (z_mk (z_can P (c3N (fun i => pl (L * 3 + i))))) ∧ w_ = xW ad cB cI P wy pl ac vr sl gd lk fx fv sx sw fo cn qa qb qc qd) := by
  refine MI.of (by decide) (Nat.le_of_ble_eq_true rfl) ?_
  intro X eL eD hX hret
  subst eL; subst eD
  have hX : Fx X cX0_enabled RX0 4 2 53 cB cI := hX
  show ww X (xW ad cB cI P wy pl ac vr sl gd lk fx fv sx sw fo cn qa qb qc qd) [(0, .ref (ad 0)), (1, .int (nI L))] 0 []
  have ha : ∀ i, i < 3 → (c3N (fun i => pl (L * 3 + i))) i ≤ 4 := fun i hi => by rw [c3N, if_pos hi]; exact hp i hi
  have loop : ∀ n i : Nat, i + n = 3 → ww X (xW ad cB cI P wy pl ac vr sl gd lk fx fv sx sw fo cn qa qb qc qd) [(0, .ref (ad 0)), (1, .int (nI L)), (2, .int (nI (z_mt (z_can P (c3N (fun i => pl (L * 3 + i)))) i))), (3, .int (nI i))] 4 [] := by
    intro n
    induction n with
    | zero =>
      intro i hi
      obtain rfl : i = 3 := by omega
      refine ww_iload_n (pc := 4) hX dX0_enabled_4 3 rfl ?_
      refine ww_iconst (pc := 5) (v := nI 3) hX dX0_enabled_5 (by decide) ?_
      refine ww_icmp_geN (pc := 6) (tgt := 57) hX (by omega) (by omega) dX0_enabled_6 (by decide) (fun c1 => ?_) (fun c1 => ?_)
      · refine ww_iload_n (pc := 57) hX dX0_enabled_57 2 rfl ?_
        exact hret _ _ _ _ (rfl) (⟨by rw [z_mt3], rfl⟩) dX0_enabled_58
      · exact absurd c1 (by omega)
    | succ n ih =>
      intro i hi
      have hm := z_mt_lt (z_can P (c3N (fun i => pl (L * 3 + i)))) i
      refine ww_iload_n (pc := 4) hX dX0_enabled_4 3 rfl ?_
      refine ww_iconst (pc := 5) (v := nI 3) hX dX0_enabled_5 (by decide) ?_
      refine ww_icmp_geN (pc := 6) (tgt := 57) hX (by omega) (by omega) dX0_enabled_6 (by decide) (fun c1 => ?_) (fun c1 => ?_)
      · exact absurd c1 (by omega)
      · refine ww_aload_n (pc := 9) hX dX0_enabled_9 0 rfl ?_
        refine ww_iload_n (pc := 10) hX dX0_enabled_10 3 rfl ?_
        refine ww_aload_n (pc := 11) hX dX0_enabled_11 0 rfl ?_
        refine xg_place (pc := 12) hX dX0_enabled_12 ?_
        refine ww_iload_n (pc := 15) hX dX0_enabled_15 1 rfl ?_
        refine ww_iconst (pc := 16) (v := nI 3) hX dX0_enabled_16 (by decide) ?_
        refine ww_imulN (pc := 17) hX dX0_enabled_17 ?_
        refine xl_place (pc := 18) hX (by omega) dX0_enabled_18 ?_
        refine ww_aload_n (pc := 19) hX dX0_enabled_19 0 rfl ?_
        refine xg_place (pc := 20) hX dX0_enabled_20 ?_
        refine ww_iload_n (pc := 23) hX dX0_enabled_23 1 rfl ?_
        refine ww_iconst (pc := 24) (v := nI 3) hX dX0_enabled_24 (by decide) ?_
        refine ww_imulN (pc := 25) hX dX0_enabled_25 ?_
        refine ww_iconst (pc := 26) (v := nI 1) hX dX0_enabled_26 (by decide) ?_
        refine ww_iaddN (pc := 27) hX dX0_enabled_27 ?_
        refine xl_place (pc := 28) hX (by omega) dX0_enabled_28 ?_
        refine ww_aload_n (pc := 29) hX dX0_enabled_29 0 rfl ?_
        refine xg_place (pc := 30) hX dX0_enabled_30 ?_
        refine ww_iload_n (pc := 33) hX dX0_enabled_33 1 rfl ?_
        refine ww_iconst (pc := 34) (v := nI 3) hX dX0_enabled_34 (by decide) ?_
        refine ww_imulN (pc := 35) hX dX0_enabled_35 ?_
        refine ww_iconst (pc := 36) (v := nI 2) hX dX0_enabled_36 (by decide) ?_
        refine ww_iaddN (pc := 37) hX dX0_enabled_37 ?_
        refine xl_place (pc := 38) hX (by omega) dX0_enabled_38 ?_
        refine ww_callI (pc := 39) (n := 4) (rest := []) hX (xm_canTurn i (c3N (fun i => pl (L * 3 + i))) hok c1 ha) (lw_V q127 q129 qs1 q21 q130) (by decide +kernel) rfl ⟨by decide, by decide⟩ 0 0 rfl rfl rfl (Nat.le_of_ble_eq_true rfl) dX0_enabled_39 (fun r_ w_ hq_ => ?_)
        obtain ⟨rfl, rfl⟩ := hq_
        have ih_ := ih (i + 1) (by omega)
        refine ww_if_eqB (pc := 42) (tgt := 51) hX dX0_enabled_42 (by decide) (fun c2 => ?_) (fun c2 => ?_)
        · refine ww_iincN (pc := 51) (lv' := [(0, .ref (ad 0)), (1, .int (nI L)), (2, .int (nI (z_mt (z_can P (c3N (fun i => pl (L * 3 + i)))) i))), (3, .int (nI (i + 1)))]) hX dX0_enabled_51 3 rfl (by decide) [1, 2, 3, 0] rfl ?_
          refine ww_goto (pc := 54) (tgt := 4) hX dX0_enabled_54 (by decide) ?_
          rw [z_mt, c2, if_neg (by decide), Nat.add_zero] at ih_
          exact ih_
        · refine ww_iload_n (pc := 45) hX dX0_enabled_45 2 rfl ?_
          refine ww_iconst (pc := 46) (v := nI 1) hX dX0_enabled_46 (by decide) ?_
          refine ww_iload_n (pc := 47) hX dX0_enabled_47 3 rfl ?_
          refine ww_ishl (pc := 48) hX dX0_enabled_48 ?_
          refine ww_ior (pc := 49) hX dX0_enabled_49 ?_
          rw [z_or c1 hm]
          refine ww_istore_n (pc := 50) (lv' := [(0, .ref (ad 0)), (1, .int (nI L)), (2, .int (nI (z_mt (z_can P (c3N (fun i => pl (L * 3 + i)))) i + 2 ^ i))), (3, .int (nI i))]) hX dX0_enabled_50 (by decide) [1, 2, 0, 3] rfl ?_
          refine ww_iincN (pc := 51) (lv' := [(0, .ref (ad 0)), (1, .int (nI L)), (2, .int (nI (z_mt (z_can P (c3N (fun i => pl (L * 3 + i)))) i + 2 ^ i))), (3, .int (nI (i + 1)))]) hX dX0_enabled_51 3 rfl (by decide) [1, 2, 3, 0] rfl ?_
          refine ww_goto (pc := 54) (tgt := 4) hX dX0_enabled_54 (by decide) ?_
          rw [z_mt, c2, if_pos rfl] at ih_
          exact ih_
  refine ww_iconst (pc := 0) (v := nI (z_mt (z_can P (c3N (fun i => pl (L * 3 + i)))) 0)) hX dX0_enabled_0 (by first | decide | rfl) ?_
  refine ww_istore_n (pc := 1) (lv' := [(0, .ref (ad 0)), (1, .int (nI L)), (2, .int (nI (z_mt (z_can P (c3N (fun i => pl (L * 3 + i)))) 0)))]) hX dX0_enabled_1 (by decide) [1, 2, 0] rfl ?_
  refine ww_iconst (pc := 2) (v := nI 0) hX dX0_enabled_2 (by decide) ?_
  refine ww_istore_n (pc := 3) (lv' := [(0, .ref (ad 0)), (1, .int (nI L)), (2, .int (nI (z_mt (z_can P (c3N (fun i => pl (L * 3 + i)))) 0))), (3, .int (nI 0))]) hX dX0_enabled_3 (by decide) [1, 2, 3, 0] rfl ?_
  exact loop 3 0 (by omega)
def z_cac (P : Pg) (i own base : Nat) (ac vr : Nat → Int32) : Nat → Int32 := if pK P i = 3 then va_up ac own (ac own + pN P i) else if pK P i = 0 ∨ pK P i = 2 then va_up ac own (vr (base + (pN P i).toNatClampNeg)) else ac
def z_cvr (P : Pg) (i own base : Nat) (ac vr : Nat → Int32) : Nat → Int32 := if pK P i = 1 ∨ pK P i = 2 then va_up vr (base + (pN P i).toNatClampNeg) (ac own) else vr
set_option maxHeartbeats 4000000 in
set_option maxRecDepth 100000 in
/-- carry -/
theorem xm_carry (i own base : Nat) (hok : pOk P) (hi : i < 12) (ho : own < 39) (hb : base < 37) : MV l D cB cI yX0_carry cX0_carry 7 0 0 [.ref (ad 0), .int (nI i), .int (nI own), .int (nI base)] (xW ad cB cI P wy pl ac vr sl gd lk fx fv sx sw fo cn qa qb qc qd) (fun w_ => w_ = xW ad cB cI P wy pl (z_cac P i own base ac vr) (z_cvr P i own base ac vr) sl gd lk fx fv sx sw fo cn qa qb qc qd) := by
  refine MV.of (by decide) (Nat.le_of_ble_eq_true rfl) ?_
  intro X eL eD hX hret
  subst eL; subst eD
  have hX : Fx X cX0_carry RX0 7 0 0 cB cI := hX
  show ww X (xW ad cB cI P wy pl ac vr sl gd lk fx fv sx sw fo cn qa qb qc qd) [(0, .ref (ad 0)), (1, .int (nI i)), (2, .int (nI own)), (3, .int (nI base))] 0 []
  have hk := (hok.2 i).1
  refine ww_aload_n (pc := 0) hX dX0_carry_0 0 rfl ?_
  refine xg_kinds (pc := 1) hX dX0_carry_1 ?_
  refine ww_iload_n (pc := 4) hX dX0_carry_4 1 rfl ?_
  refine xl_kinds (pc := 5) hX (by omega) dX0_carry_5 ?_
  refine ww_istore (pc := 6) (lv' := [(0, .ref (ad 0)), (1, .int (nI i)), (2, .int (nI own)), (3, .int (nI base)), (4, .int (nI ((pK P) i)))]) hX dX0_carry_6 (by decide) [1, 2, 3, 4, 0] rfl ?_
  refine ww_aload_n (pc := 8) hX dX0_carry_8 0 rfl ?_
  refine xg_numbers (pc := 9) hX dX0_carry_9 ?_
  refine ww_iload_n (pc := 12) hX dX0_carry_12 1 rfl ?_
  refine xl_numbers (pc := 13) hX (by omega) dX0_carry_13 ?_
  refine ww_istore (pc := 14) (lv' := [(0, .ref (ad 0)), (1, .int (nI i)), (2, .int (nI own)), (3, .int (nI base)), (4, .int (nI ((pK P) i))), (5, .int ((pN P) i))]) hX dX0_carry_14 (by decide) [1, 2, 3, 4, 5, 0] rfl ?_
  refine ww_iload (pc := 16) hX dX0_carry_16 4 rfl ?_
  refine ww_iconst (pc := 18) (v := nI 3) hX dX0_carry_18 (by decide) ?_
  refine ww_icmp_neN (pc := 19) (tgt := 36) hX (by omega) (by omega) dX0_carry_19 (by decide) (fun c1 => ?_) (fun c1 => ?_)
  · refine ww_iload (pc := 36) hX dX0_carry_36 4 rfl ?_
    refine ww_iconst (pc := 38) (v := nI 2) hX dX0_carry_38 (by decide) ?_
    refine ww_icmp_gtN (pc := 39) (tgt := 101) hX (by omega) (by omega) dX0_carry_39 (by decide) (fun c2 => ?_) (fun c2 => ?_)
    · exact hret _ _ _ (by rw [z_cac, if_neg c1, if_neg (by omega), z_cvr, if_neg (by omega)]) dX0_carry_101
    · obtain ⟨j, hj, ej⟩ := (hok.2 i).2.1 c2
      have ec : (pN P i).toNatClampNeg = j := by rw [ej]; exact nI_clamp (by omega)
      rw [show (Value.int (pN P i)) = .int (nI j) by rw [ej]]
      refine ww_aload_n (pc := 42) hX dX0_carry_42 0 rfl ?_
      refine xg_vars (pc := 43) hX dX0_carry_43 ?_
      refine ww_iload_n (pc := 46) hX dX0_carry_46 3 rfl ?_
      refine ww_iload (pc := 47) hX dX0_carry_47 5 rfl ?_
      refine ww_iaddN (pc := 49) hX dX0_carry_49 ?_
      refine xl_vars (pc := 50) hX (by omega) dX0_carry_50 ?_
      refine ww_istore (pc := 51) (lv' := [(0, .ref (ad 0)), (1, .int (nI i)), (2, .int (nI own)), (3, .int (nI base)), (4, .int (nI ((pK P) i))), (5, .int (nI j)), (6, .int (vr (base + j)))]) hX dX0_carry_51 (by decide) [1, 2, 3, 4, 5, 6, 0] rfl ?_
      refine ww_aload_n (pc := 53) hX dX0_carry_53 0 rfl ?_
      refine xg_vars (pc := 54) hX dX0_carry_54 ?_
      refine ww_iload_n (pc := 57) hX dX0_carry_57 3 rfl ?_
      refine ww_iload (pc := 58) hX dX0_carry_58 5 rfl ?_
      refine ww_iaddN (pc := 60) hX dX0_carry_60 ?_
      refine ww_iload (pc := 61) hX dX0_carry_61 4 rfl ?_
      refine ww_if_neN (pc := 63) (tgt := 71) hX (by omega) dX0_carry_63 (by decide) (fun c3 => ?_) (fun c3 => ?_)
      · refine ww_aload_n (pc := 71) hX dX0_carry_71 0 rfl ?_
        refine xg_accs (pc := 72) hX dX0_carry_72 ?_
        refine ww_iload_n (pc := 75) hX dX0_carry_75 2 rfl ?_
        refine xl_accs (pc := 76) hX (by omega) dX0_carry_76 ?_
        refine xs_vars (pc := 77) hX (by omega) dX0_carry_77 ?_
        refine ww_aload_n (pc := 78) hX dX0_carry_78 0 rfl ?_
        refine xg_accs (pc := 79) hX dX0_carry_79 ?_
        refine ww_iload_n (pc := 82) hX dX0_carry_82 2 rfl ?_
        refine ww_iload (pc := 83) hX dX0_carry_83 4 rfl ?_
        refine ww_iconst (pc := 85) (v := nI 1) hX dX0_carry_85 (by decide) ?_
        refine ww_icmp_neN (pc := 86) (tgt := 98) hX (by omega) (by omega) dX0_carry_86 (by decide) (fun c4 => ?_) (fun c4 => ?_)
        · refine ww_iload (pc := 98) hX dX0_carry_98 6 rfl ?_
          refine xs_accs (pc := 100) hX (by omega) dX0_carry_100 ?_
          exact hret _ _ _ (by rw [z_cac, if_neg c1, if_pos (by omega), z_cvr, if_pos (by omega), ec]) dX0_carry_101
        · refine ww_aload_n (pc := 89) hX dX0_carry_89 0 rfl ?_
          refine xg_accs (pc := 90) hX dX0_carry_90 ?_
          refine ww_iload_n (pc := 93) hX dX0_carry_93 2 rfl ?_
          refine xl_accs (pc := 94) hX (by omega) dX0_carry_94 ?_
          refine ww_goto (pc := 95) (tgt := 100) hX dX0_carry_95 (by decide) ?_
          refine xs_accs (pc := 100) hX (by omega) dX0_carry_100 ?_
          exact hret _ _ _ (by rw [z_cac, if_neg c1, if_neg (by omega), z_cvr, if_pos (by omega), ec, z_up_same]) dX0_carry_101
      · refine ww_iload (pc := 66) hX dX0_carry_66 6 rfl ?_
        refine ww_goto (pc := 68) (tgt := 77) hX dX0_carry_68 (by decide) ?_
        refine xs_vars (pc := 77) hX (by omega) dX0_carry_77 ?_
        refine ww_aload_n (pc := 78) hX dX0_carry_78 0 rfl ?_
        refine xg_accs (pc := 79) hX dX0_carry_79 ?_
        refine ww_iload_n (pc := 82) hX dX0_carry_82 2 rfl ?_
        refine ww_iload (pc := 83) hX dX0_carry_83 4 rfl ?_
        refine ww_iconst (pc := 85) (v := nI 1) hX dX0_carry_85 (by decide) ?_
        refine ww_icmp_neN (pc := 86) (tgt := 98) hX (by omega) (by omega) dX0_carry_86 (by decide) (fun c4 => ?_) (fun c4 => ?_)
        · refine ww_iload (pc := 98) hX dX0_carry_98 6 rfl ?_
          refine xs_accs (pc := 100) hX (by omega) dX0_carry_100 ?_
          exact hret _ _ _ (by rw [z_cac, if_neg c1, if_pos (by omega), z_cvr, if_neg (by omega), ec, z_up_same]) dX0_carry_101
        · exact absurd c4 (by omega)
  · refine ww_aload_n (pc := 22) hX dX0_carry_22 0 rfl ?_
    refine xg_accs (pc := 23) hX dX0_carry_23 ?_
    refine ww_iload_n (pc := 26) hX dX0_carry_26 2 rfl ?_
    refine ww_dup2 (pc := 27) hX dX0_carry_27 rfl rfl ?_
    refine xl_accs (pc := 28) hX (by omega) dX0_carry_28 ?_
    refine ww_iload (pc := 29) hX dX0_carry_29 5 rfl ?_
    refine ww_iadd (pc := 31) hX dX0_carry_31 ?_
    refine xs_accs (pc := 32) hX (by omega) dX0_carry_32 ?_
    refine ww_goto (pc := 33) (tgt := 101) hX dX0_carry_33 (by decide) ?_
    exact hret _ _ _ (by rw [z_cac, if_pos c1, z_cvr, if_neg (by omega)]) dX0_carry_101
end XB
end
section
section XC
variable {l : Launch} {D : va_G} {cB cI : ClassId} {ad : Nat → Nat} {P : Pg} {wy pl : Nat → Nat} {ac vr : Nat → Int32} {sl gd : Nat → Nat} {lk : Bool} {fx : Nat} {fv : Int32} {sx : Nat} {sw : Int32} {fo : Bool} {cn : Nat} {qa qb qc qd : Nat → Int32}
/-- the copy of a level's first n places into the next level -/
def z_cp {α : Type} (f : Nat → α) (F n : Nat) : Nat → α := fun j => if F + 3 ≤ j ∧ j < F + 3 + n then f (j - 3) else f j
theorem z_cp_0 {α : Type} (f : Nat → α) (F : Nat) : z_cp f F 0 = f := by
  funext j
  rw [z_cp, if_neg (by omega)]
theorem z_cp_lo {α : Type} {f : Nat → α} {F n j : Nat} (h : j < F + 3) : z_cp f F n j = f j := by rw [z_cp, if_neg (by omega)]
theorem z_cp_hi {α : Type} {f : Nat → α} {F n i : Nat} (h : i < n) : z_cp f F n (F + 3 + i) = f (F + i) := by
  rw [z_cp, if_pos (by omega), show F + 3 + i - 3 = F + i by omega]
theorem z_cp_up {α : Type} (f : Nat → α) (F i : Nat) : va_up (z_cp f F i) (F + 3 + i) (f (F + i)) = z_cp f F (i + 1) := by
  funext j
  by_cases h : j = F + 3 + i
  · subst h
    rw [va_up_self, z_cp_hi (by omega)]
  · rw [va_up_ne _ _ h]
    by_cases h2 : F + 3 ≤ j ∧ j < F + 3 + i
    · rw [z_cp, if_pos h2, z_cp, if_pos (by omega)]
    · rw [z_cp, if_neg h2, z_cp, if_neg (by omega)]
theorem z_bit2 {a b t : Nat} (ha : a < 8) (hb : b < 8) (ht : t < 3) : (((nI a ||| nI b) >>> (nI t &&& 31)) &&& nI 1 = 0) ↔ (z_tb a t || z_tb b t) = false := by
  have : ∀ a, a < 8 → ∀ b, b < 8 → ∀ t, t < 3 → ((((nI a ||| nI b) >>> (nI t &&& 31)) &&& nI 1 = 0) ↔ (z_tb a t || z_tb b t) = false) := by decide +kernel
  exact this a ha b hb t ht
/-! what a turn leaves in the walk's arrays -/
def z_tpl (pl : Nat → Nat) (L t : Nat) : Nat → Nat := va_up (z_cp pl (L * 3) 3) (L * 3 + 3 + t) (pl (L * 3 + t) + 1)
def z_tac (P : Pg) (pl : Nat → Nat) (ac vr : Nat → Int32) (L t : Nat) : Nat → Int32 := z_cac P (t * 4 + pl (L * 3 + t)) (L * 3 + 3 + t) (L * 3 + 3) (z_cp ac (L * 3) 3) (z_cp vr (L * 3) 3)
def z_tvr (P : Pg) (pl : Nat → Nat) (ac vr : Nat → Int32) (L t : Nat) : Nat → Int32 := z_cvr P (t * 4 + pl (L * 3 + t)) (L * 3 + 3 + t) (L * 3 + 3) (z_cp ac (L * 3) 3) (z_cp vr (L * 3) 3)
def z_tsl (P : Pg) (pl : Nat → Nat) (sl gd : Nat → Nat) (L t : Nat) : Nat → Nat := va_up sl (L + 1) (z_mk (z_slp P (c3N (fun i => pl (L * 3 + i))) t (fun s => z_tb (sl L) s || z_tb (gd L) s)))
set_option maxHeartbeats 4000000 in
set_option maxRecDepth 100000 in
/-- turn -/
theorem xm_turn (L t : Nat) (hok : pOk P) (hL : L ≤ 11) (ht : t < 3) (hp : ∀ i, i < 3 → pl (L * 3 + i) ≤ 4) (hpt : pl (L * 3 + t) ≤ 3) (hsl : sl L < 8) (hgd : gd L < 8) (hz : ∀ s, s < 3 → (z_tb (sl L) s || z_tb (gd L) s) = true → pl (L * 3 + s) ≤ 3) : MV l D cB cI yX0_turn cX0_turn 9 1 26 [.ref (ad 0), .int (nI L), .int (nI t)] (xW ad cB cI P wy pl ac vr sl gd lk fx fv sx sw fo cn qa qb qc qd) (fun w_ => w_ = xW ad cB cI P wy (z_tpl pl L t) (z_tac P pl ac vr L t) (z_tvr P pl ac vr L t) (z_tsl P pl sl gd L t) (va_up gd (L + 1) 0) lk fx fv sx sw fo cn qa qb qc qd) := by
  refine MV.of (by decide) (Nat.le_of_ble_eq_true rfl) ?_
  intro X eL eD hX hret
  subst eL; subst eD
  have hX : Fx X cX0_turn RX0 9 1 26 cB cI := hX
  show ww X (xW ad cB cI P wy pl ac vr sl gd lk fx fv sx sw fo cn qa qb qc qd) [(0, .ref (ad 0)), (1, .int (nI L)), (2, .int (nI t))] 0 []
  have after : ww X (xW ad cB cI P wy (z_cp pl (L * 3) 3) (z_cp ac (L * 3) 3) (z_cp vr (L * 3) 3) sl gd lk fx fv sx sw fo cn qa qb qc qd) [(0, .ref (ad 0)), (1, .int (nI L)), (2, .int (nI t)), (3, .int (nI (L * 3))), (4, .int (nI ((L * 3) + 3)))] 81 [] := by
    refine ww_iload_n (pc := 81) hX dX0_turn_81 2 rfl ?_
    refine ww_iconst (pc := 82) (v := nI 4) hX dX0_turn_82 (by decide) ?_
    refine ww_imulN (pc := 83) hX dX0_turn_83 ?_
    refine ww_aload_n (pc := 84) hX dX0_turn_84 0 rfl ?_
    refine xg_place (pc := 85) hX dX0_turn_85 ?_
    refine ww_iload_n (pc := 88) hX dX0_turn_88 3 rfl ?_
    refine ww_iload_n (pc := 89) hX dX0_turn_89 2 rfl ?_
    refine ww_iaddN (pc := 90) hX dX0_turn_90 ?_
    refine xl_place (pc := 91) hX (by omega) dX0_turn_91 ?_
    rw [z_cp_lo (show L * 3 + t < L * 3 + 3 by omega)]
    refine ww_iaddN (pc := 92) hX dX0_turn_92 ?_
    refine ww_istore (pc := 93) (lv' := [(0, .ref (ad 0)), (1, .int (nI L)), (2, .int (nI t)), (3, .int (nI (L * 3))), (4, .int (nI ((L * 3) + 3))), (5, .int (nI ((t * 4) + (pl ((L * 3) + t)))))]) hX dX0_turn_93 (by decide) [1, 2, 3, 4, 5, 0] rfl ?_
    refine ww_aload_n (pc := 95) hX dX0_turn_95 0 rfl ?_
    refine xg_place (pc := 96) hX dX0_turn_96 ?_
    refine ww_iload (pc := 99) hX dX0_turn_99 4 rfl ?_
    refine ww_iload_n (pc := 101) hX dX0_turn_101 2 rfl ?_
    refine ww_iaddN (pc := 102) hX dX0_turn_102 ?_
    refine ww_dup2 (pc := 103) hX dX0_turn_103 rfl rfl ?_
    refine xl_place (pc := 104) hX (by omega) dX0_turn_104 ?_
    rw [z_cp_hi (f := pl) (show t < 3 from ht)]
    refine ww_iconst (pc := 105) (v := nI 1) hX dX0_turn_105 (by decide) ?_
    refine ww_iaddN (pc := 106) hX dX0_turn_106 ?_
    refine ww_i2bN (pc := 107) hX (by omega) dX0_turn_107 ?_
    refine xs_place (pc := 108) hX (by omega) (by omega) dX0_turn_108 ?_
    refine ww_aload_n (pc := 109) hX dX0_turn_109 0 rfl ?_
    refine ww_iload (pc := 110) hX dX0_turn_110 5 rfl ?_
    refine ww_iload (pc := 112) hX dX0_turn_112 4 rfl ?_
    refine ww_iload_n (pc := 114) hX dX0_turn_114 2 rfl ?_
    refine ww_iaddN (pc := 115) hX dX0_turn_115 ?_
    refine ww_iload (pc := 116) hX dX0_turn_116 4 rfl ?_
    refine ww_callV (pc := 118) (n := 3) (rest := []) hX (xm_carry _ _ _ hok (by omega) (by omega) (by omega)) (lw_V q166 q168 qs8 q21 q169) (by decide +kernel) rfl ⟨by decide, by decide⟩ 0 0 rfl rfl rfl (Nat.le_of_ble_eq_true rfl) dX0_turn_118 (fun w_ hq_ => ?_)
    subst hq_
    have loop : ∀ n s : Nat, s + n = 3 → ww X (xW ad cB cI P wy (z_tpl pl L t) (z_tac P pl ac vr L t) (z_tvr P pl ac vr L t) sl gd lk fx fv sx sw fo cn qa qb qc qd) [(0, .ref (ad 0)), (1, .int (nI L)), (2, .int (nI t)), (3, .int (nI (L * 3))), (4, .int (nI ((L * 3) + 3))), (5, .int (nI ((t * 4) + (pl ((L * 3) + t))))), (6, .int (nI (z_mt (z_slp P (c3N (fun i => pl (L * 3 + i))) t (fun s => z_tb (sl L) s || z_tb (gd L) s)) s))), (7, .int (nI s))] 127 [] := by
      intro n
      induction n with
      | zero =>
        intro s hs
        obtain rfl : s = 3 := by omega
        have hm := z_mt_lt (z_slp P (c3N (fun i => pl (L * 3 + i))) t (fun s => z_tb (sl L) s || z_tb (gd L) s)) 3
        refine ww_iload (pc := 127) hX dX0_turn_127 7 rfl ?_
        refine ww_iconst (pc := 129) (v := nI 3) hX dX0_turn_129 (by decide) ?_
        refine ww_icmp_geN (pc := 130) (tgt := 204) hX (by omega) (by omega) dX0_turn_130 (by decide) (fun c1 => ?_) (fun c1 => ?_)
        · refine ww_aload_n (pc := 204) hX dX0_turn_204 0 rfl ?_
          refine xg_sleeping (pc := 205) hX dX0_turn_205 ?_
          refine ww_iload_n (pc := 208) hX dX0_turn_208 1 rfl ?_
          refine ww_iconst (pc := 209) (v := nI 1) hX dX0_turn_209 (by decide) ?_
          refine ww_iaddN (pc := 210) hX dX0_turn_210 ?_
          refine ww_iload (pc := 211) hX dX0_turn_211 6 rfl ?_
          refine ww_i2bN (pc := 213) hX (by omega) dX0_turn_213 ?_
          refine xs_sleeping (pc := 214) hX (by omega) (by omega) dX0_turn_214 ?_
          refine ww_aload_n (pc := 215) hX dX0_turn_215 0 rfl ?_
          refine xg_hadTurn (pc := 216) hX dX0_turn_216 ?_
          refine ww_iload_n (pc := 219) hX dX0_turn_219 1 rfl ?_
          refine ww_iconst (pc := 220) (v := nI 1) hX dX0_turn_220 (by decide) ?_
          refine ww_iaddN (pc := 221) hX dX0_turn_221 ?_
          refine ww_iconst (pc := 222) (v := nI 0) hX dX0_turn_222 (by decide) ?_
          refine xs_hadTurn (pc := 223) hX (by omega) (by omega) dX0_turn_223 ?_
          exact hret _ _ _ (by rw [z_tsl, ← z_mt3]) dX0_turn_224
        · exact absurd c1 (by omega)
      | succ n ih =>
        intro s hs
        have hm := z_mt_lt (z_slp P (c3N (fun i => pl (L * 3 + i))) t (fun s => z_tb (sl L) s || z_tb (gd L) s)) s
        refine ww_iload (pc := 127) hX dX0_turn_127 7 rfl ?_
        refine ww_iconst (pc := 129) (v := nI 3) hX dX0_turn_129 (by decide) ?_
        refine ww_icmp_geN (pc := 130) (tgt := 204) hX (by omega) (by omega) dX0_turn_130 (by decide) (fun c1 => ?_) (fun c1 => ?_)
        · exact absurd c1 (by omega)
        · have ih_ := ih (s + 1) (by omega)
          have hf : (z_slp P (c3N (fun i => pl (L * 3 + i))) t (fun s => z_tb (sl L) s || z_tb (gd L) s)) s = ((z_tb (sl L) s || z_tb (gd L) s) && !z_tch P ((t * 4) + (pl ((L * 3) + t))) ((s * 4) + (pl ((L * 3) + s)))) := by simp only [z_slp, c3N, if_pos ht, if_pos c1]
          refine ww_aload_n (pc := 133) hX dX0_turn_133 0 rfl ?_
          refine xg_sleeping (pc := 134) hX dX0_turn_134 ?_
          refine ww_iload_n (pc := 137) hX dX0_turn_137 1 rfl ?_
          refine xl_sleeping (pc := 138) hX (by omega) dX0_turn_138 ?_
          refine ww_aload_n (pc := 139) hX dX0_turn_139 0 rfl ?_
          refine xg_hadTurn (pc := 140) hX dX0_turn_140 ?_
          refine ww_iload_n (pc := 143) hX dX0_turn_143 1 rfl ?_
          refine xl_hadTurn (pc := 144) hX (by omega) dX0_turn_144 ?_
          refine ww_ior (pc := 145) hX dX0_turn_145 ?_
          refine ww_iload (pc := 146) hX dX0_turn_146 7 rfl ?_
          refine ww_ishr (pc := 148) hX dX0_turn_148 ?_
          refine ww_iconst (pc := 149) (v := nI 1) hX dX0_turn_149 (by decide) ?_
          refine ww_iand (pc := 150) hX dX0_turn_150 ?_
          refine ww_if_eq (pc := 151) (tgt := 158) hX dX0_turn_151 (by decide) (fun c2 => ?_) (fun c2 => ?_)
          · refine ww_iconst (pc := 158) (v := bI false) hX dX0_turn_158 (by first | decide | rfl) ?_
            refine ww_istore (pc := 159) (lv' := [(0, .ref (ad 0)), (1, .int (nI L)), (2, .int (nI t)), (3, .int (nI (L * 3))), (4, .int (nI ((L * 3) + 3))), (5, .int (nI ((t * 4) + (pl ((L * 3) + t))))), (6, .int (nI (z_mt (z_slp P (c3N (fun i => pl (L * 3 + i))) t (fun s => z_tb (sl L) s || z_tb (gd L) s)) s))), (7, .int (nI s)), (8, .int (bI false))]) hX dX0_turn_159 (by decide) [1, 2, 3, 4, 5, 6, 7, 8, 0] rfl ?_
            refine ww_iload (pc := 161) hX dX0_turn_161 8 rfl ?_
            refine ww_if_eqB (pc := 163) (tgt := 198) hX dX0_turn_163 (by decide) (fun c3 => ?_) (fun c3 => ?_)
            · refine ww_iincN (pc := 198) (lv' := [(0, .ref (ad 0)), (1, .int (nI L)), (2, .int (nI t)), (3, .int (nI (L * 3))), (4, .int (nI ((L * 3) + 3))), (5, .int (nI ((t * 4) + (pl ((L * 3) + t))))), (6, .int (nI (z_mt (z_slp P (c3N (fun i => pl (L * 3 + i))) t (fun s => z_tb (sl L) s || z_tb (gd L) s)) s))), (7, .int (nI (s + 1))), (8, .int (bI false))]) hX dX0_turn_198 7 rfl (by decide) [1, 2, 3, 4, 5, 6, 7, 0, 8] rfl ?_
              refine ww_goto (pc := 201) (tgt := 127) hX dX0_turn_201 (by decide) ?_
              refine ww_sub [0, 1, 2, 3, 4, 5, 6, 7] rfl (lv := [(0, .ref (ad 0)), (1, .int (nI L)), (2, .int (nI t)), (3, .int (nI (L * 3))), (4, .int (nI ((L * 3) + 3))), (5, .int (nI ((t * 4) + (pl ((L * 3) + t))))), (6, .int (nI (z_mt (z_slp P (c3N (fun i => pl (L * 3 + i))) t (fun s => z_tb (sl L) s || z_tb (gd L) s)) s))), (7, .int (nI (s + 1)))]) ?_
              rw [z_mt, hf, (z_bit2 hsl hgd c1).mp c2, Bool.false_and, if_neg (by decide), Nat.add_zero] at ih_
              exact ih_
            · exact absurd c3 (by decide)
          · have hb : (z_tb (sl L) s || z_tb (gd L) s) = true := by
              cases h : (z_tb (sl L) s || z_tb (gd L) s)
              · exact absurd ((z_bit2 hsl hgd c1).mpr h) c2
              · rfl
            have hps := hz s c1 hb
            refine ww_iconst (pc := 154) (v := bI true) hX dX0_turn_154 (by first | decide | rfl) ?_
            refine ww_goto (pc := 155) (tgt := 159) hX dX0_turn_155 (by decide) ?_
            refine ww_istore (pc := 159) (lv' := [(0, .ref (ad 0)), (1, .int (nI L)), (2, .int (nI t)), (3, .int (nI (L * 3))), (4, .int (nI ((L * 3) + 3))), (5, .int (nI ((t * 4) + (pl ((L * 3) + t))))), (6, .int (nI (z_mt (z_slp P (c3N (fun i => pl (L * 3 + i))) t (fun s => z_tb (sl L) s || z_tb (gd L) s)) s))), (7, .int (nI s)), (8, .int (bI true))]) hX dX0_turn_159 (by decide) [1, 2, 3, 4, 5, 6, 7, 8, 0] rfl ?_
            refine ww_iload (pc := 161) hX dX0_turn_161 8 rfl ?_
            refine ww_if_eqB (pc := 163) (tgt := 198) hX dX0_turn_163 (by decide) (fun c3 => ?_) (fun c3 => ?_)
            · exact absurd c3 (by decide)
            · refine ww_aload_n (pc := 166) hX dX0_turn_166 0 rfl ?_
              refine ww_iload (pc := 167) hX dX0_turn_167 5 rfl ?_
              refine ww_iload (pc := 169) hX dX0_turn_169 7 rfl ?_
              refine ww_iconst (pc := 171) (v := nI 4) hX dX0_turn_171 (by decide) ?_
              refine ww_imulN (pc := 172) hX dX0_turn_172 ?_
              refine ww_aload_n (pc := 173) hX dX0_turn_173 0 rfl ?_
              refine xg_place (pc := 174) hX dX0_turn_174 ?_
              refine ww_iload_n (pc := 177) hX dX0_turn_177 3 rfl ?_
              refine ww_iload (pc := 178) hX dX0_turn_178 7 rfl ?_
              refine ww_iaddN (pc := 180) hX dX0_turn_180 ?_
              refine xl_place (pc := 181) hX (by omega) dX0_turn_181 ?_
              rw [z_tpl, va_up_ne _ _ (show L * 3 + s ≠ L * 3 + 3 + t by omega), z_cp_lo (show L * 3 + s < L * 3 + 3 by omega), ← z_tpl]
              refine ww_iaddN (pc := 182) hX dX0_turn_182 ?_
              refine ww_callI (pc := 183) (n := 2) (rest := []) hX (xm_touch _ _ hok (by omega) (by omega)) (lw_V q170 q172 qs9 q21 q173) (by decide +kernel) rfl ⟨by decide, by decide⟩ 0 0 rfl rfl rfl (Nat.le_of_ble_eq_true rfl) dX0_turn_183 (fun r_ w_ hq_ => ?_)
              obtain ⟨rfl, rfl⟩ := hq_
              refine ww_if_neB (pc := 186) (tgt := 198) hX dX0_turn_186 (by decide) (fun c4 => ?_) (fun c4 => ?_)
              · refine ww_iincN (pc := 198) (lv' := [(0, .ref (ad 0)), (1, .int (nI L)), (2, .int (nI t)), (3, .int (nI (L * 3))), (4, .int (nI ((L * 3) + 3))), (5, .int (nI ((t * 4) + (pl ((L * 3) + t))))), (6, .int (nI (z_mt (z_slp P (c3N (fun i => pl (L * 3 + i))) t (fun s => z_tb (sl L) s || z_tb (gd L) s)) s))), (7, .int (nI (s + 1))), (8, .int (bI true))]) hX dX0_turn_198 7 rfl (by decide) [1, 2, 3, 4, 5, 6, 7, 0, 8] rfl ?_
                refine ww_goto (pc := 201) (tgt := 127) hX dX0_turn_201 (by decide) ?_
                refine ww_sub [0, 1, 2, 3, 4, 5, 6, 7] rfl (lv := [(0, .ref (ad 0)), (1, .int (nI L)), (2, .int (nI t)), (3, .int (nI (L * 3))), (4, .int (nI ((L * 3) + 3))), (5, .int (nI ((t * 4) + (pl ((L * 3) + t))))), (6, .int (nI (z_mt (z_slp P (c3N (fun i => pl (L * 3 + i))) t (fun s => z_tb (sl L) s || z_tb (gd L) s)) s))), (7, .int (nI (s + 1)))]) ?_
                rw [z_mt, hf, hb, c4, if_neg (by decide), Nat.add_zero] at ih_
                exact ih_
              · refine ww_iload (pc := 189) hX dX0_turn_189 6 rfl ?_
                refine ww_iconst (pc := 191) (v := nI 1) hX dX0_turn_191 (by decide) ?_
                refine ww_iload (pc := 192) hX dX0_turn_192 7 rfl ?_
                refine ww_ishl (pc := 194) hX dX0_turn_194 ?_
                refine ww_ior (pc := 195) hX dX0_turn_195 ?_
                rw [z_or c1 hm]
                refine ww_istore (pc := 196) (lv' := [(0, .ref (ad 0)), (1, .int (nI L)), (2, .int (nI t)), (3, .int (nI (L * 3))), (4, .int (nI ((L * 3) + 3))), (5, .int (nI ((t * 4) + (pl ((L * 3) + t))))), (6, .int (nI (z_mt (z_slp P (c3N (fun i => pl (L * 3 + i))) t (fun s => z_tb (sl L) s || z_tb (gd L) s)) s + 2 ^ s))), (7, .int (nI s)), (8, .int (bI true))]) hX dX0_turn_196 (by decide) [1, 2, 3, 4, 5, 6, 0, 7, 8] rfl ?_
                refine ww_iincN (pc := 198) (lv' := [(0, .ref (ad 0)), (1, .int (nI L)), (2, .int (nI t)), (3, .int (nI (L * 3))), (4, .int (nI ((L * 3) + 3))), (5, .int (nI ((t * 4) + (pl ((L * 3) + t))))), (6, .int (nI (z_mt (z_slp P (c3N (fun i => pl (L * 3 + i))) t (fun s => z_tb (sl L) s || z_tb (gd L) s)) s + 2 ^ s))), (7, .int (nI (s + 1))), (8, .int (bI true))]) hX dX0_turn_198 7 rfl (by decide) [1, 2, 3, 4, 5, 6, 7, 0, 8] rfl ?_
                refine ww_goto (pc := 201) (tgt := 127) hX dX0_turn_201 (by decide) ?_
                refine ww_sub [0, 1, 2, 3, 4, 5, 6, 7] rfl (lv := [(0, .ref (ad 0)), (1, .int (nI L)), (2, .int (nI t)), (3, .int (nI (L * 3))), (4, .int (nI ((L * 3) + 3))), (5, .int (nI ((t * 4) + (pl ((L * 3) + t))))), (6, .int (nI (z_mt (z_slp P (c3N (fun i => pl (L * 3 + i))) t (fun s => z_tb (sl L) s || z_tb (gd L) s)) s + 2 ^ s))), (7, .int (nI (s + 1)))]) ?_
                rw [z_mt, hf, hb, c4, if_pos (by decide)] at ih_
                exact ih_
    refine ww_iconst (pc := 121) (v := nI (z_mt (z_slp P (c3N (fun i => pl (L * 3 + i))) t (fun s => z_tb (sl L) s || z_tb (gd L) s)) 0)) hX dX0_turn_121 (by first | decide | rfl) ?_
    refine ww_istore (pc := 122) (lv' := [(0, .ref (ad 0)), (1, .int (nI L)), (2, .int (nI t)), (3, .int (nI (L * 3))), (4, .int (nI ((L * 3) + 3))), (5, .int (nI ((t * 4) + (pl ((L * 3) + t))))), (6, .int (nI (z_mt (z_slp P (c3N (fun i => pl (L * 3 + i))) t (fun s => z_tb (sl L) s || z_tb (gd L) s)) 0)))]) hX dX0_turn_122 (by decide) [1, 2, 3, 4, 5, 6, 0] rfl ?_
    refine ww_iconst (pc := 124) (v := nI 0) hX dX0_turn_124 (by decide) ?_
    refine ww_istore (pc := 125) (lv' := [(0, .ref (ad 0)), (1, .int (nI L)), (2, .int (nI t)), (3, .int (nI (L * 3))), (4, .int (nI ((L * 3) + 3))), (5, .int (nI ((t * 4) + (pl ((L * 3) + t))))), (6, .int (nI (z_mt (z_slp P (c3N (fun i => pl (L * 3 + i))) t (fun s => z_tb (sl L) s || z_tb (gd L) s)) 0))), (7, .int (nI 0))]) hX dX0_turn_125 (by decide) [1, 2, 3, 4, 5, 6, 7, 0] rfl ?_
    exact loop 3 0 (by omega)
  have loop : ∀ n i : Nat, i + n = 3 → ww X (xW ad cB cI P wy (z_cp pl (L * 3) i) (z_cp ac (L * 3) i) (z_cp vr (L * 3) i) sl gd lk fx fv sx sw fo cn qa qb qc qd) [(0, .ref (ad 0)), (1, .int (nI L)), (2, .int (nI t)), (3, .int (nI (L * 3))), (4, .int (nI ((L * 3) + 3))), (5, .int (nI i))] 12 [] := by
    intro n
    induction n with
    | zero =>
      intro i hi
      obtain rfl : i = 3 := by omega
      refine ww_iload (pc := 12) hX dX0_turn_12 5 rfl ?_
      refine ww_iconst (pc := 14) (v := nI 3) hX dX0_turn_14 (by decide) ?_
      refine ww_icmp_geN (pc := 15) (tgt := 81) hX (by omega) (by omega) dX0_turn_15 (by decide) (fun c1 => ?_) (fun c1 => ?_)
      · exact ww_sub [0, 1, 2, 3, 4] rfl after
      · exact absurd c1 (by omega)
    | succ n ih =>
      intro i hi
      refine ww_iload (pc := 12) hX dX0_turn_12 5 rfl ?_
      refine ww_iconst (pc := 14) (v := nI 3) hX dX0_turn_14 (by decide) ?_
      refine ww_icmp_geN (pc := 15) (tgt := 81) hX (by omega) (by omega) dX0_turn_15 (by decide) (fun c1 => ?_) (fun c1 => ?_)
      · exact absurd c1 (by omega)
      · have hpi := hp i c1
        have ih_ := ih (i + 1) (by omega)
        refine ww_aload_n (pc := 18) hX dX0_turn_18 0 rfl ?_
        refine xg_place (pc := 19) hX dX0_turn_19 ?_
        refine ww_iload (pc := 22) hX dX0_turn_22 4 rfl ?_
        refine ww_iload (pc := 24) hX dX0_turn_24 5 rfl ?_
        refine ww_iaddN (pc := 26) hX dX0_turn_26 ?_
        refine ww_aload_n (pc := 27) hX dX0_turn_27 0 rfl ?_
        refine xg_place (pc := 28) hX dX0_turn_28 ?_
        refine ww_iload_n (pc := 31) hX dX0_turn_31 3 rfl ?_
        refine ww_iload (pc := 32) hX dX0_turn_32 5 rfl ?_
        refine ww_iaddN (pc := 34) hX dX0_turn_34 ?_
        refine xl_place (pc := 35) hX (by omega) dX0_turn_35 ?_
        rw [z_cp_lo (f := pl) (show L * 3 + i < L * 3 + 3 by omega)]
        refine xs_place (pc := 36) hX (by omega) (by omega) dX0_turn_36 ?_
        refine ww_aload_n (pc := 37) hX dX0_turn_37 0 rfl ?_
        refine xg_accs (pc := 38) hX dX0_turn_38 ?_
        refine ww_iload (pc := 41) hX dX0_turn_41 4 rfl ?_
        refine ww_iload (pc := 43) hX dX0_turn_43 5 rfl ?_
        refine ww_iaddN (pc := 45) hX dX0_turn_45 ?_
        refine ww_aload_n (pc := 46) hX dX0_turn_46 0 rfl ?_
        refine xg_accs (pc := 47) hX dX0_turn_47 ?_
        refine ww_iload_n (pc := 50) hX dX0_turn_50 3 rfl ?_
        refine ww_iload (pc := 51) hX dX0_turn_51 5 rfl ?_
        refine ww_iaddN (pc := 53) hX dX0_turn_53 ?_
        refine xl_accs (pc := 54) hX (by omega) dX0_turn_54 ?_
        rw [z_cp_lo (f := ac) (show L * 3 + i < L * 3 + 3 by omega)]
        refine xs_accs (pc := 55) hX (by omega) dX0_turn_55 ?_
        refine ww_aload_n (pc := 56) hX dX0_turn_56 0 rfl ?_
        refine xg_vars (pc := 57) hX dX0_turn_57 ?_
        refine ww_iload (pc := 60) hX dX0_turn_60 4 rfl ?_
        refine ww_iload (pc := 62) hX dX0_turn_62 5 rfl ?_
        refine ww_iaddN (pc := 64) hX dX0_turn_64 ?_
        refine ww_aload_n (pc := 65) hX dX0_turn_65 0 rfl ?_
        refine xg_vars (pc := 66) hX dX0_turn_66 ?_
        refine ww_iload_n (pc := 69) hX dX0_turn_69 3 rfl ?_
        refine ww_iload (pc := 70) hX dX0_turn_70 5 rfl ?_
        refine ww_iaddN (pc := 72) hX dX0_turn_72 ?_
        refine xl_vars (pc := 73) hX (by omega) dX0_turn_73 ?_
        rw [z_cp_lo (f := vr) (show L * 3 + i < L * 3 + 3 by omega)]
        refine xs_vars (pc := 74) hX (by omega) dX0_turn_74 ?_
        refine ww_iincN (pc := 75) (lv' := [(0, .ref (ad 0)), (1, .int (nI L)), (2, .int (nI t)), (3, .int (nI (L * 3))), (4, .int (nI ((L * 3) + 3))), (5, .int (nI (i + 1)))]) hX dX0_turn_75 5 rfl (by decide) [1, 2, 3, 4, 5, 0] rfl ?_
        refine ww_goto (pc := 78) (tgt := 12) hX dX0_turn_78 (by decide) ?_
        rw [z_cp_up pl, z_cp_up ac, z_cp_up vr]
        exact ih_
  refine ww_iload_n (pc := 0) hX dX0_turn_0 1 rfl ?_
  refine ww_iconst (pc := 1) (v := nI 3) hX dX0_turn_1 (by decide) ?_
  refine ww_imulN (pc := 2) hX dX0_turn_2 ?_
  refine ww_istore_n (pc := 3) (lv' := [(0, .ref (ad 0)), (1, .int (nI L)), (2, .int (nI t)), (3, .int (nI (L * 3)))]) hX dX0_turn_3 (by decide) [1, 2, 3, 0] rfl ?_
  refine ww_iload_n (pc := 4) hX dX0_turn_4 3 rfl ?_
  refine ww_iconst (pc := 5) (v := nI 3) hX dX0_turn_5 (by decide) ?_
  refine ww_iaddN (pc := 6) hX dX0_turn_6 ?_
  refine ww_istore (pc := 7) (lv' := [(0, .ref (ad 0)), (1, .int (nI L)), (2, .int (nI t)), (3, .int (nI (L * 3))), (4, .int (nI ((L * 3) + 3)))]) hX dX0_turn_7 (by decide) [1, 2, 3, 4, 0] rfl ?_
  refine ww_iconst (pc := 9) (v := nI 0) hX dX0_turn_9 (by decide) ?_
  refine ww_istore (pc := 10) (lv' := [(0, .ref (ad 0)), (1, .int (nI L)), (2, .int (nI t)), (3, .int (nI (L * 3))), (4, .int (nI ((L * 3) + 3))), (5, .int (nI 0))]) hX dX0_turn_10 (by decide) [1, 2, 3, 4, 5, 0] rfl ?_
  have l0 := loop 3 0 (by omega)
  rw [z_cp_0, z_cp_0, z_cp_0] at l0
  exact l0
end XC
end
section
section XD
variable {l : Launch} {D : va_G} {cB cI : ClassId} {ad : Nat → Nat} {P : Pg} {wy pl : Nat → Nat} {ac vr : Nat → Int32} {sl gd : Nat → Nat} {lk : Bool} {fx : Nat} {fv : Int32} {sx : Nat} {sw : Int32} {fo : Bool} {cn : Nat} {qa qb qc qd : Nat → Int32}
theorem bI_or (a b : Bool) : bI a ||| bI b = bI (a || b) := by cases a <;> cases b <;> decide
theorem z_mn_0 (b : Bool) (v q : Nat → Int32) : z_mn 0 b v q = q := by
  funext x
  rw [z_mn, if_neg (by omega)]
theorem z_mx_0 (b : Bool) (v q : Nat → Int32) : z_mx 0 b v q = q := by
  funext x
  rw [z_mx, if_neg (by omega)]
theorem z_mn_at (n : Nat) (b : Bool) (v q : Nat → Int32) : z_mn n b v q n = q n := by rw [z_mn, if_neg (by omega)]
theorem z_mx_at (n : Nat) (b : Bool) (v q : Nat → Int32) : z_mx n b v q n = q n := by rw [z_mx, if_neg (by omega)]
theorem z_mn_up (n : Nat) (b : Bool) (v q : Nat → Int32) : va_up (z_mn n b v q) n (if b = true ∨ v n < q n then v n else q n) = z_mn (n + 1) b v q := by
  funext x
  by_cases h : x = n
  · subst h
    rw [va_up_self, z_mn, if_pos (show x < x + 1 by omega)]
  · rw [va_up_ne _ _ h]
    by_cases h2 : x < n
    · rw [z_mn, if_pos h2, z_mn, if_pos (show x < n + 1 by omega)]
    · rw [z_mn, if_neg h2, z_mn, if_neg (show ¬ x < n + 1 by omega)]
theorem z_mx_up (n : Nat) (b : Bool) (v q : Nat → Int32) : va_up (z_mx n b v q) n (if b = true ∨ q n < v n then v n else q n) = z_mx (n + 1) b v q := by
  funext x
  by_cases h : x = n
  · subst h
    rw [va_up_self, z_mx, if_pos (show x < x + 1 by omega)]
  · rw [va_up_ne _ _ h]
    by_cases h2 : x < n
    · rw [z_mx, if_pos h2, z_mx, if_pos (show x < n + 1 by omega)]
    · rw [z_mx, if_neg h2, z_mx, if_neg (show ¬ x < n + 1 by omega)]
theorem z_mn_c3 (b : Bool) (v q : Nat → Int32) : z_mn 3 b (c3V v) q = z_mn 3 b v q := by
  funext x
  by_cases h : x < 3
  · simp only [z_mn, if_pos h, c3V]
  · simp only [z_mn, if_neg h]
theorem z_mx_c3 (b : Bool) (v q : Nat → Int32) : z_mx 3 b (c3V v) q = z_mx 3 b v q := by
  funext x
  by_cases h : x < 3
  · simp only [z_mx, if_pos h, c3V]
  · simp only [z_mx, if_neg h]
set_option maxHeartbeats 4000000 in
set_option maxRecDepth 100000 in
/-- arrive -/
theorem xm_arrive (L : Nat) (hL : L ≤ 12) (hfx : fx < 3) (hsx : sx < 3) (hcn : cn < 2 ^ 31) : MV l D cB cI yX0_arrive cX0_arrive 7 0 0 [.ref (ad 0), .int (nI L)] (xW ad cB cI P wy pl ac vr sl gd lk fx fv sx sw fo cn qa qb qc qd) (fun w_ => w_ = xW ad cB cI P wy pl ac vr sl gd lk fx fv sx sw ((z_arr fx fv sx sw (z_nd pl ac vr L) (fo, cn, qa, qb, qc, qd)).1) ((z_arr fx fv sx sw (z_nd pl ac vr L) (fo, cn, qa, qb, qc, qd)).2.1) ((z_arr fx fv sx sw (z_nd pl ac vr L) (fo, cn, qa, qb, qc, qd)).2.2.1) ((z_arr fx fv sx sw (z_nd pl ac vr L) (fo, cn, qa, qb, qc, qd)).2.2.2.1) ((z_arr fx fv sx sw (z_nd pl ac vr L) (fo, cn, qa, qb, qc, qd)).2.2.2.2.1) ((z_arr fx fv sx sw (z_nd pl ac vr L) (fo, cn, qa, qb, qc, qd)).2.2.2.2.2)) := by
  refine MV.of (by decide) (Nat.le_of_ble_eq_true rfl) ?_
  intro X eL eD hX hret
  subst eL; subst eD
  have hX : Fx X cX0_arrive RX0 7 0 0 cB cI := hX
  show ww X (xW ad cB cI P wy pl ac vr sl gd lk fx fv sx sw fo cn qa qb qc qd) [(0, .ref (ad 0)), (1, .int (nI L))] 0 []
  refine ww_iload_n (pc := 0) hX dX0_arrive_0 1 rfl ?_
  refine ww_iconst (pc := 1) (v := nI 3) hX dX0_arrive_1 (by decide) ?_
  refine ww_imulN (pc := 2) hX dX0_arrive_2 ?_
  refine ww_istore_n (pc := 3) (lv' := [(0, .ref (ad 0)), (1, .int (nI L)), (2, .int (nI (L * 3)))]) hX dX0_arrive_3 (by decide) [1, 2, 0] rfl ?_
  have loop : ∀ n x : Nat, x + n = 3 → ww X (xW ad cB cI P wy pl ac vr sl gd lk fx fv sx sw (fo || (decide (vr ((L * 3) + fx) = fv) && decide (vr ((L * 3) + sx) = sw))) cn (z_mn x (decide (cn = 0)) (fun i => vr (L * 3 + i)) qa) (z_mx x (decide (cn = 0)) (fun i => vr (L * 3 + i)) qb) (z_mn x (decide (cn = 0)) (fun i => ac (L * 3 + i)) qc) (z_mx x (decide (cn = 0)) (fun i => ac (L * 3 + i)) qd)) [(0, .ref (ad 0)), (1, .int (nI L)), (2, .int (nI (L * 3))), (3, .int (nI x))] 56 [] := by
    intro n
    induction n with
    | zero =>
      intro x hx
      obtain rfl : x = 3 := by omega
      refine ww_iload_n (pc := 56) hX dX0_arrive_56 3 rfl ?_
      refine ww_iconst (pc := 57) (v := nI 3) hX dX0_arrive_57 (by decide) ?_
      refine ww_icmp_geN (pc := 58) (tgt := 233) hX (by omega) (by omega) dX0_arrive_58 (by decide) (fun c1 => ?_) (fun c1 => ?_)
      · refine ww_aload_n (pc := 233) hX dX0_arrive_233 0 rfl ?_
        refine ww_dup (pc := 234) hX dX0_arrive_234 rfl ?_
        refine xg_classCount (pc := 235) hX dX0_arrive_235 ?_
        refine ww_iconst (pc := 238) (v := nI 1) hX dX0_arrive_238 (by decide) ?_
        refine ww_iaddN (pc := 239) hX dX0_arrive_239 ?_
        refine xp_classCount (pc := 240) hX dX0_arrive_240 ?_
        exact hret _ _ _ (by simp only [z_arr, z_nd, z_mn_c3, z_mx_c3, c3V, if_pos hfx, if_pos hsx]) dX0_arrive_243
      · exact absurd c1 (by omega)
    | succ n ih =>
      intro x hx
      refine ww_iload_n (pc := 56) hX dX0_arrive_56 3 rfl ?_
      refine ww_iconst (pc := 57) (v := nI 3) hX dX0_arrive_57 (by decide) ?_
      refine ww_icmp_geN (pc := 58) (tgt := 233) hX (by omega) (by omega) dX0_arrive_58 (by decide) (fun c1 => ?_) (fun c1 => ?_)
      · exact absurd c1 (by omega)
      · have ih_ := ih (x + 1) (by omega)
        refine ww_aload_n (pc := 61) hX dX0_arrive_61 0 rfl ?_
        refine xg_vars (pc := 62) hX dX0_arrive_62 ?_
        refine ww_iload_n (pc := 65) hX dX0_arrive_65 2 rfl ?_
        refine ww_iload_n (pc := 66) hX dX0_arrive_66 3 rfl ?_
        refine ww_iaddN (pc := 67) hX dX0_arrive_67 ?_
        refine xl_vars (pc := 68) hX (by omega) dX0_arrive_68 ?_
        refine ww_istore (pc := 69) (lv' := [(0, .ref (ad 0)), (1, .int (nI L)), (2, .int (nI (L * 3))), (3, .int (nI x)), (4, .int (vr ((L * 3) + x)))]) hX dX0_arrive_69 (by decide) [1, 2, 3, 4, 0] rfl ?_
        refine ww_aload_n (pc := 71) hX dX0_arrive_71 0 rfl ?_
        refine xg_accs (pc := 72) hX dX0_arrive_72 ?_
        refine ww_iload_n (pc := 75) hX dX0_arrive_75 2 rfl ?_
        refine ww_iload_n (pc := 76) hX dX0_arrive_76 3 rfl ?_
        refine ww_iaddN (pc := 77) hX dX0_arrive_77 ?_
        refine xl_accs (pc := 78) hX (by omega) dX0_arrive_78 ?_
        refine ww_istore (pc := 79) (lv' := [(0, .ref (ad 0)), (1, .int (nI L)), (2, .int (nI (L * 3))), (3, .int (nI x)), (4, .int (vr ((L * 3) + x))), (5, .int (ac ((L * 3) + x)))]) hX dX0_arrive_79 (by decide) [1, 2, 3, 4, 5, 0] rfl ?_
        have J93 : ∀ v_ : Int32, v_ = (bI (decide (cn = 0))) → ww X (xW ad cB cI P wy pl ac vr sl gd lk fx fv sx sw (fo || (decide (vr ((L * 3) + fx) = fv) && decide (vr ((L * 3) + sx) = sw))) cn (z_mn x (decide (cn = 0)) (fun i => vr (L * 3 + i)) qa) (z_mx x (decide (cn = 0)) (fun i => vr (L * 3 + i)) qb) (z_mn x (decide (cn = 0)) (fun i => ac (L * 3 + i)) qc) (z_mx x (decide (cn = 0)) (fun i => ac (L * 3 + i)) qd)) [(0, .ref (ad 0)), (1, .int (nI L)), (2, .int (nI (L * 3))), (3, .int (nI x)), (4, .int (vr ((L * 3) + x))), (5, .int (ac ((L * 3) + x)))] 93 [.int v_] := by
          rintro _ rfl
          refine ww_istore (pc := 93) (lv' := [(0, .ref (ad 0)), (1, .int (nI L)), (2, .int (nI (L * 3))), (3, .int (nI x)), (4, .int (vr ((L * 3) + x))), (5, .int (ac ((L * 3) + x))), (6, .int (bI (decide (cn = 0))))]) hX dX0_arrive_93 (by decide) [1, 2, 3, 4, 5, 6, 0] rfl ?_
          refine ww_aload_n (pc := 95) hX dX0_arrive_95 0 rfl ?_
          refine xg_leastV (pc := 96) hX dX0_arrive_96 ?_
          refine ww_iload_n (pc := 99) hX dX0_arrive_99 3 rfl ?_
          have J127 : ∀ v_ : Int32, v_ = (if (decide (cn = 0)) = true ∨ vr ((L * 3) + x) < qa x then vr ((L * 3) + x) else qa x) → ww X (xW ad cB cI P wy pl ac vr sl gd lk fx fv sx sw (fo || (decide (vr ((L * 3) + fx) = fv) && decide (vr ((L * 3) + sx) = sw))) cn (z_mn x (decide (cn = 0)) (fun i => vr (L * 3 + i)) qa) (z_mx x (decide (cn = 0)) (fun i => vr (L * 3 + i)) qb) (z_mn x (decide (cn = 0)) (fun i => ac (L * 3 + i)) qc) (z_mx x (decide (cn = 0)) (fun i => ac (L * 3 + i)) qd)) [(0, .ref (ad 0)), (1, .int (nI L)), (2, .int (nI (L * 3))), (3, .int (nI x)), (4, .int (vr ((L * 3) + x))), (5, .int (ac ((L * 3) + x))), (6, .int (bI (decide (cn = 0))))] 127 [.int v_, .int (nI x), .ref (ad 12)] := by
            rintro _ rfl
            refine xs_leastV (pc := 127) hX (by omega) dX0_arrive_127 ?_
            refine ww_aload_n (pc := 128) hX dX0_arrive_128 0 rfl ?_
            refine xg_mostV (pc := 129) hX dX0_arrive_129 ?_
            refine ww_iload_n (pc := 132) hX dX0_arrive_132 3 rfl ?_
            have J160 : ∀ v_ : Int32, v_ = (if (decide (cn = 0)) = true ∨ qb x < vr ((L * 3) + x) then vr ((L * 3) + x) else qb x) → ww X (xW ad cB cI P wy pl ac vr sl gd lk fx fv sx sw (fo || (decide (vr ((L * 3) + fx) = fv) && decide (vr ((L * 3) + sx) = sw))) cn (va_up (z_mn x (decide (cn = 0)) (fun i => vr (L * 3 + i)) qa) x (if (decide (cn = 0)) = true ∨ vr ((L * 3) + x) < qa x then vr ((L * 3) + x) else qa x)) (z_mx x (decide (cn = 0)) (fun i => vr (L * 3 + i)) qb) (z_mn x (decide (cn = 0)) (fun i => ac (L * 3 + i)) qc) (z_mx x (decide (cn = 0)) (fun i => ac (L * 3 + i)) qd)) [(0, .ref (ad 0)), (1, .int (nI L)), (2, .int (nI (L * 3))), (3, .int (nI x)), (4, .int (vr ((L * 3) + x))), (5, .int (ac ((L * 3) + x))), (6, .int (bI (decide (cn = 0))))] 160 [.int v_, .int (nI x), .ref (ad 13)] := by
              rintro _ rfl
              refine xs_mostV (pc := 160) hX (by omega) dX0_arrive_160 ?_
              refine ww_aload_n (pc := 161) hX dX0_arrive_161 0 rfl ?_
              refine xg_leastA (pc := 162) hX dX0_arrive_162 ?_
              refine ww_iload_n (pc := 165) hX dX0_arrive_165 3 rfl ?_
              have J193 : ∀ v_ : Int32, v_ = (if (decide (cn = 0)) = true ∨ ac ((L * 3) + x) < qc x then ac ((L * 3) + x) else qc x) → ww X (xW ad cB cI P wy pl ac vr sl gd lk fx fv sx sw (fo || (decide (vr ((L * 3) + fx) = fv) && decide (vr ((L * 3) + sx) = sw))) cn (va_up (z_mn x (decide (cn = 0)) (fun i => vr (L * 3 + i)) qa) x (if (decide (cn = 0)) = true ∨ vr ((L * 3) + x) < qa x then vr ((L * 3) + x) else qa x)) (va_up (z_mx x (decide (cn = 0)) (fun i => vr (L * 3 + i)) qb) x (if (decide (cn = 0)) = true ∨ qb x < vr ((L * 3) + x) then vr ((L * 3) + x) else qb x)) (z_mn x (decide (cn = 0)) (fun i => ac (L * 3 + i)) qc) (z_mx x (decide (cn = 0)) (fun i => ac (L * 3 + i)) qd)) [(0, .ref (ad 0)), (1, .int (nI L)), (2, .int (nI (L * 3))), (3, .int (nI x)), (4, .int (vr ((L * 3) + x))), (5, .int (ac ((L * 3) + x))), (6, .int (bI (decide (cn = 0))))] 193 [.int v_, .int (nI x), .ref (ad 14)] := by
                rintro _ rfl
                refine xs_leastA (pc := 193) hX (by omega) dX0_arrive_193 ?_
                refine ww_aload_n (pc := 194) hX dX0_arrive_194 0 rfl ?_
                refine xg_mostA (pc := 195) hX dX0_arrive_195 ?_
                refine ww_iload_n (pc := 198) hX dX0_arrive_198 3 rfl ?_
                have J226 : ∀ v_ : Int32, v_ = (if (decide (cn = 0)) = true ∨ qd x < ac ((L * 3) + x) then ac ((L * 3) + x) else qd x) → ww X (xW ad cB cI P wy pl ac vr sl gd lk fx fv sx sw (fo || (decide (vr ((L * 3) + fx) = fv) && decide (vr ((L * 3) + sx) = sw))) cn (va_up (z_mn x (decide (cn = 0)) (fun i => vr (L * 3 + i)) qa) x (if (decide (cn = 0)) = true ∨ vr ((L * 3) + x) < qa x then vr ((L * 3) + x) else qa x)) (va_up (z_mx x (decide (cn = 0)) (fun i => vr (L * 3 + i)) qb) x (if (decide (cn = 0)) = true ∨ qb x < vr ((L * 3) + x) then vr ((L * 3) + x) else qb x)) (va_up (z_mn x (decide (cn = 0)) (fun i => ac (L * 3 + i)) qc) x (if (decide (cn = 0)) = true ∨ ac ((L * 3) + x) < qc x then ac ((L * 3) + x) else qc x)) (z_mx x (decide (cn = 0)) (fun i => ac (L * 3 + i)) qd)) [(0, .ref (ad 0)), (1, .int (nI L)), (2, .int (nI (L * 3))), (3, .int (nI x)), (4, .int (vr ((L * 3) + x))), (5, .int (ac ((L * 3) + x))), (6, .int (bI (decide (cn = 0))))] 226 [.int v_, .int (nI x), .ref (ad 15)] := by
                  rintro _ rfl
                  refine xs_mostA (pc := 226) hX (by omega) dX0_arrive_226 ?_
                  refine ww_iincN (pc := 227) (lv' := [(0, .ref (ad 0)), (1, .int (nI L)), (2, .int (nI (L * 3))), (3, .int (nI (x + 1))), (4, .int (vr ((L * 3) + x))), (5, .int (ac ((L * 3) + x))), (6, .int (bI (decide (cn = 0))))]) hX dX0_arrive_227 3 rfl (by decide) [1, 2, 3, 0, 4, 5, 6] rfl ?_
                  refine ww_goto (pc := 230) (tgt := 56) hX dX0_arrive_230 (by decide) ?_
                  refine ww_sub [0, 1, 2, 3] rfl (lv := [(0, .ref (ad 0)), (1, .int (nI L)), (2, .int (nI (L * 3))), (3, .int (nI (x + 1)))]) ?_
                  rw [z_mn_up x (decide (cn = 0)) (fun i => vr (L * 3 + i)), z_mx_up x (decide (cn = 0)) (fun i => vr (L * 3 + i)), z_mn_up x (decide (cn = 0)) (fun i => ac (L * 3 + i)), z_mx_up x (decide (cn = 0)) (fun i => ac (L * 3 + i))]
                  exact ih_
                refine ww_iload (pc := 199) hX dX0_arrive_199 6 rfl ?_
                refine ww_if_neB (pc := 201) (tgt := 215) hX dX0_arrive_201 (by decide) (fun d1 => ?_) (fun d1 => ?_)
                · refine ww_iload (pc := 215) hX dX0_arrive_215 5 rfl ?_
                  refine ww_goto (pc := 217) (tgt := 226) hX dX0_arrive_217 (by decide) ?_
                  exact J226 _ ((if_pos (Or.inl d1)).symm)
                · refine ww_iload (pc := 204) hX dX0_arrive_204 5 rfl ?_
                  refine ww_aload_n (pc := 206) hX dX0_arrive_206 0 rfl ?_
                  refine xg_mostA (pc := 207) hX dX0_arrive_207 ?_
                  refine ww_iload_n (pc := 210) hX dX0_arrive_210 3 rfl ?_
                  refine xl_mostA (pc := 211) hX (by omega) dX0_arrive_211 ?_
                  rw [z_mx_at]
                  refine ww_icmp_le (pc := 212) (tgt := 220) hX dX0_arrive_212 (by decide) (fun d2 => ?_) (fun d2 => ?_)
                  · refine ww_aload_n (pc := 220) hX dX0_arrive_220 0 rfl ?_
                    refine xg_mostA (pc := 221) hX dX0_arrive_221 ?_
                    refine ww_iload_n (pc := 224) hX dX0_arrive_224 3 rfl ?_
                    refine xl_mostA (pc := 225) hX (by omega) dX0_arrive_225 ?_
                    rw [z_mx_at]
                    have dn : ¬ (decide (cn = 0) = true ∨ qd x < ac ((L * 3) + x)) := by
                      rintro (h | h)
                      · rw [h] at d1; exact absurd d1 (by decide)
                      · exact absurd d2 (Int32.not_le.mpr h)
                    exact J226 _ ((if_neg dn).symm)
                  · refine ww_iload (pc := 215) hX dX0_arrive_215 5 rfl ?_
                    refine ww_goto (pc := 217) (tgt := 226) hX dX0_arrive_217 (by decide) ?_
                    exact J226 _ ((if_pos (Or.inr (Int32.not_le.mp d2))).symm)
              refine ww_iload (pc := 166) hX dX0_arrive_166 6 rfl ?_
              refine ww_if_neB (pc := 168) (tgt := 182) hX dX0_arrive_168 (by decide) (fun d1 => ?_) (fun d1 => ?_)
              · refine ww_iload (pc := 182) hX dX0_arrive_182 5 rfl ?_
                refine ww_goto (pc := 184) (tgt := 193) hX dX0_arrive_184 (by decide) ?_
                exact J193 _ ((if_pos (Or.inl d1)).symm)
              · refine ww_iload (pc := 171) hX dX0_arrive_171 5 rfl ?_
                refine ww_aload_n (pc := 173) hX dX0_arrive_173 0 rfl ?_
                refine xg_leastA (pc := 174) hX dX0_arrive_174 ?_
                refine ww_iload_n (pc := 177) hX dX0_arrive_177 3 rfl ?_
                refine xl_leastA (pc := 178) hX (by omega) dX0_arrive_178 ?_
                rw [z_mn_at]
                refine ww_icmp_ge (pc := 179) (tgt := 187) hX dX0_arrive_179 (by decide) (fun d2 => ?_) (fun d2 => ?_)
                · refine ww_aload_n (pc := 187) hX dX0_arrive_187 0 rfl ?_
                  refine xg_leastA (pc := 188) hX dX0_arrive_188 ?_
                  refine ww_iload_n (pc := 191) hX dX0_arrive_191 3 rfl ?_
                  refine xl_leastA (pc := 192) hX (by omega) dX0_arrive_192 ?_
                  rw [z_mn_at]
                  have dn : ¬ (decide (cn = 0) = true ∨ ac ((L * 3) + x) < qc x) := by
                    rintro (h | h)
                    · rw [h] at d1; exact absurd d1 (by decide)
                    · exact absurd d2 (Int32.not_le.mpr h)
                  exact J193 _ ((if_neg dn).symm)
                · refine ww_iload (pc := 182) hX dX0_arrive_182 5 rfl ?_
                  refine ww_goto (pc := 184) (tgt := 193) hX dX0_arrive_184 (by decide) ?_
                  exact J193 _ ((if_pos (Or.inr (Int32.not_le.mp d2))).symm)
            refine ww_iload (pc := 133) hX dX0_arrive_133 6 rfl ?_
            refine ww_if_neB (pc := 135) (tgt := 149) hX dX0_arrive_135 (by decide) (fun d1 => ?_) (fun d1 => ?_)
            · refine ww_iload (pc := 149) hX dX0_arrive_149 4 rfl ?_
              refine ww_goto (pc := 151) (tgt := 160) hX dX0_arrive_151 (by decide) ?_
              exact J160 _ ((if_pos (Or.inl d1)).symm)
            · refine ww_iload (pc := 138) hX dX0_arrive_138 4 rfl ?_
              refine ww_aload_n (pc := 140) hX dX0_arrive_140 0 rfl ?_
              refine xg_mostV (pc := 141) hX dX0_arrive_141 ?_
              refine ww_iload_n (pc := 144) hX dX0_arrive_144 3 rfl ?_
              refine xl_mostV (pc := 145) hX (by omega) dX0_arrive_145 ?_
              rw [z_mx_at]
              refine ww_icmp_le (pc := 146) (tgt := 154) hX dX0_arrive_146 (by decide) (fun d2 => ?_) (fun d2 => ?_)
              · refine ww_aload_n (pc := 154) hX dX0_arrive_154 0 rfl ?_
                refine xg_mostV (pc := 155) hX dX0_arrive_155 ?_
                refine ww_iload_n (pc := 158) hX dX0_arrive_158 3 rfl ?_
                refine xl_mostV (pc := 159) hX (by omega) dX0_arrive_159 ?_
                rw [z_mx_at]
                have dn : ¬ (decide (cn = 0) = true ∨ qb x < vr ((L * 3) + x)) := by
                  rintro (h | h)
                  · rw [h] at d1; exact absurd d1 (by decide)
                  · exact absurd d2 (Int32.not_le.mpr h)
                exact J160 _ ((if_neg dn).symm)
              · refine ww_iload (pc := 149) hX dX0_arrive_149 4 rfl ?_
                refine ww_goto (pc := 151) (tgt := 160) hX dX0_arrive_151 (by decide) ?_
                exact J160 _ ((if_pos (Or.inr (Int32.not_le.mp d2))).symm)
          refine ww_iload (pc := 100) hX dX0_arrive_100 6 rfl ?_
          refine ww_if_neB (pc := 102) (tgt := 116) hX dX0_arrive_102 (by decide) (fun d1 => ?_) (fun d1 => ?_)
          · refine ww_iload (pc := 116) hX dX0_arrive_116 4 rfl ?_
            refine ww_goto (pc := 118) (tgt := 127) hX dX0_arrive_118 (by decide) ?_
            exact J127 _ ((if_pos (Or.inl d1)).symm)
          · refine ww_iload (pc := 105) hX dX0_arrive_105 4 rfl ?_
            refine ww_aload_n (pc := 107) hX dX0_arrive_107 0 rfl ?_
            refine xg_leastV (pc := 108) hX dX0_arrive_108 ?_
            refine ww_iload_n (pc := 111) hX dX0_arrive_111 3 rfl ?_
            refine xl_leastV (pc := 112) hX (by omega) dX0_arrive_112 ?_
            rw [z_mn_at]
            refine ww_icmp_ge (pc := 113) (tgt := 121) hX dX0_arrive_113 (by decide) (fun d2 => ?_) (fun d2 => ?_)
            · refine ww_aload_n (pc := 121) hX dX0_arrive_121 0 rfl ?_
              refine xg_leastV (pc := 122) hX dX0_arrive_122 ?_
              refine ww_iload_n (pc := 125) hX dX0_arrive_125 3 rfl ?_
              refine xl_leastV (pc := 126) hX (by omega) dX0_arrive_126 ?_
              rw [z_mn_at]
              have dn : ¬ (decide (cn = 0) = true ∨ vr ((L * 3) + x) < qa x) := by
                rintro (h | h)
                · rw [h] at d1; exact absurd d1 (by decide)
                · exact absurd d2 (Int32.not_le.mpr h)
              exact J127 _ ((if_neg dn).symm)
            · refine ww_iload (pc := 116) hX dX0_arrive_116 4 rfl ?_
              refine ww_goto (pc := 118) (tgt := 127) hX dX0_arrive_118 (by decide) ?_
              exact J127 _ ((if_pos (Or.inr (Int32.not_le.mp d2))).symm)
        refine ww_aload_n (pc := 81) hX dX0_arrive_81 0 rfl ?_
        refine xg_classCount (pc := 82) hX dX0_arrive_82 ?_
        refine ww_if_neN (pc := 85) (tgt := 92) hX (by omega) dX0_arrive_85 (by decide) (fun c2 => ?_) (fun c2 => ?_)
        · refine ww_iconst (pc := 92) (v := bI false) hX dX0_arrive_92 (by first | decide | rfl) ?_
          exact J93 _ (congrArg bI (decide_eq_false c2).symm)
        · refine ww_iconst (pc := 88) (v := bI true) hX dX0_arrive_88 (by first | decide | rfl) ?_
          refine ww_goto (pc := 89) (tgt := 93) hX dX0_arrive_89 (by decide) ?_
          exact J93 _ (congrArg bI (decide_eq_true c2).symm)
  refine ww_aload_n (pc := 4) hX dX0_arrive_4 0 rfl ?_
  refine ww_dup (pc := 5) hX dX0_arrive_5 rfl ?_
  refine xg_found (pc := 6) hX dX0_arrive_6 ?_
  have J50 : ∀ v_ : Int32, v_ = (bI (decide (vr ((L * 3) + fx) = fv) && decide (vr ((L * 3) + sx) = sw))) → ww X (xW ad cB cI P wy pl ac vr sl gd lk fx fv sx sw fo cn qa qb qc qd) [(0, .ref (ad 0)), (1, .int (nI L)), (2, .int (nI (L * 3)))] 50 [.int v_, .int (bI fo), .ref (ad 0)] := by
    rintro _ rfl
    refine ww_ior (pc := 50) hX dX0_arrive_50 ?_
    rw [bI_or]
    refine xp_found (pc := 51) hX dX0_arrive_51 ?_
    refine ww_iconst (pc := 54) (v := nI 0) hX dX0_arrive_54 (by decide) ?_
    refine ww_istore_n (pc := 55) (lv' := [(0, .ref (ad 0)), (1, .int (nI L)), (2, .int (nI (L * 3))), (3, .int (nI 0))]) hX dX0_arrive_55 (by decide) [1, 2, 3, 0] rfl ?_
    have l0 := loop 3 0 (by omega)
    rw [z_mn_0, z_mx_0, z_mn_0, z_mx_0] at l0
    exact l0
  refine ww_aload_n (pc := 9) hX dX0_arrive_9 0 rfl ?_
  refine xg_vars (pc := 10) hX dX0_arrive_10 ?_
  refine ww_iload_n (pc := 13) hX dX0_arrive_13 2 rfl ?_
  refine ww_aload_n (pc := 14) hX dX0_arrive_14 0 rfl ?_
  refine xg_firstX (pc := 15) hX dX0_arrive_15 ?_
  refine ww_iaddN (pc := 18) hX dX0_arrive_18 ?_
  refine xl_vars (pc := 19) hX (by omega) dX0_arrive_19 ?_
  refine ww_aload_n (pc := 20) hX dX0_arrive_20 0 rfl ?_
  refine xg_firstV (pc := 21) hX dX0_arrive_21 ?_
  refine ww_icmp_ne (pc := 24) (tgt := 49) hX dX0_arrive_24 (by decide) (fun c1 => ?_) (fun c1 => ?_)
  · refine ww_iconst (pc := 49) (v := bI false) hX dX0_arrive_49 (by first | decide | rfl) ?_
    exact J50 _ (by rw [decide_eq_false c1, Bool.false_and])
  · refine ww_aload_n (pc := 27) hX dX0_arrive_27 0 rfl ?_
    refine xg_vars (pc := 28) hX dX0_arrive_28 ?_
    refine ww_iload_n (pc := 31) hX dX0_arrive_31 2 rfl ?_
    refine ww_aload_n (pc := 32) hX dX0_arrive_32 0 rfl ?_
    refine xg_secondX (pc := 33) hX dX0_arrive_33 ?_
    refine ww_iaddN (pc := 36) hX dX0_arrive_36 ?_
    refine xl_vars (pc := 37) hX (by omega) dX0_arrive_37 ?_
    refine ww_aload_n (pc := 38) hX dX0_arrive_38 0 rfl ?_
    refine xg_secondV (pc := 39) hX dX0_arrive_39 ?_
    refine ww_icmp_ne (pc := 42) (tgt := 49) hX dX0_arrive_42 (by decide) (fun c2 => ?_) (fun c2 => ?_)
    · refine ww_iconst (pc := 49) (v := bI false) hX dX0_arrive_49 (by first | decide | rfl) ?_
      exact J50 _ (by rw [decide_eq_false c2, Bool.and_false])
    · refine ww_iconst (pc := 45) (v := bI true) hX dX0_arrive_45 (by first | decide | rfl) ?_
      refine ww_goto (pc := 46) (tgt := 50) hX dX0_arrive_46 (by decide) ?_
      exact J50 _ (by rw [decide_eq_true c1, decide_eq_true c2]; rfl)
end XD
end
section
section XE
variable {l : Launch} {D : va_G} {cB cI : ClassId} {ad : Nat → Nat} {P : Pg} {wy pl : Nat → Nat} {ac vr : Nat → Int32} {sl gd : Nat → Nat} {lk : Bool} {fx : Nat} {fv : Int32} {sx : Nat} {sw : Int32} {fo : Bool} {cn : Nat} {qa qb qc qd : Nat → Int32}
def z_w1 (i : Nat) (wy : Nat → Nat) : Nat → Nat := fun j => if j < i then (if j = 0 then 1 else 0) else wy j
theorem z_w1_0 (wy : Nat → Nat) : z_w1 0 wy = wy := by
  funext j
  rw [z_w1, if_neg (by omega)]
theorem z_w1_up (i : Nat) (wy : Nat → Nat) : va_up (z_w1 i wy) i (if i = 0 then 1 else 0) = z_w1 (i + 1) wy := by
  funext j
  by_cases h : j = i
  · subst h
    rw [va_up_self, z_w1, if_pos (show j < j + 1 by omega)]
  · rw [va_up_ne _ _ h]
    by_cases h2 : j < i
    · rw [z_w1, if_pos h2, z_w1, if_pos (show j < i + 1 by omega)]
    · rw [z_w1, if_neg h2, z_w1, if_neg (show ¬ j < i + 1 by omega)]
theorem z_std_pos (t : Nat) : 0 < z_std t := by
  unfold z_std
  split
  · decide
  · split <;> decide
theorem z_wt_s (P : Pg) (s : Nat) (wy : Nat → Nat) : ∀ t, z_wt P s t wy s = wy s
  | 0 => rfl
  | t + 1 => by
    have h := z_std_pos t
    rw [z_wt]
    split
    · rw [va_up_ne _ _ (by omega)]; exact z_wt_s P s wy t
    · exact z_wt_s P s wy t
theorem z_wt_z (P : Pg) (s : Nat) (wy : Nat → Nat) (h : wy s = 0) : ∀ t, z_wt P s t wy = wy
  | 0 => rfl
  | t + 1 => by rw [z_wt, if_neg (by omega)]; exact z_wt_z P s wy h t
theorem z_any_z (P : Pg) (s : Nat) (wy : Nat → Nat) (h : wy s = 0) : ∀ t, z_any P s wy t = false
  | 0 => rfl
  | t + 1 => by rw [z_any, z_any_z P s wy h t, decide_eq_false (by omega)]; rfl
theorem z_pls_le {s : Nat} (hs : s < 125) : ∀ i, i < 3 → z_pls s i ≤ 4 := by
  intro i hi
  unfold z_pls
  split
  · omega
  · split <;> omega
theorem z_pls_in {P : Pg} (hok : pOk P) {s t : Nat} (hs : s < 125) (ht : t < 3) (hc : z_can P (z_pls s) t = true) : s + z_std t < 125 := by
  have h1 : z_pls s t < pS P t := by
    unfold z_can at hc
    rw [Bool.and_eq_true] at hc
    exact of_decide_eq_true hc.1
  have h2 := hok.1 t
  unfold z_pls at h1
  unfold z_std
  rcases (show t = 0 ∨ t = 1 ∨ t = 2 by omega) with rfl | rfl | rfl
  · simp only [if_true] at h1 ⊢; omega
  · simp only [if_true, if_false, Nat.one_ne_zero] at h1 ⊢; omega
  · simp only [if_neg (show ¬ (2 : Nat) = 0 by decide), if_neg (show ¬ (2 : Nat) = 1 by decide)] at h1 ⊢; omega
set_option maxHeartbeats 4000000 in
set_option maxRecDepth 100000 in
/-- countWays -/
theorem xm_countWays (sk : Bool) (hok : pOk P) (hw : ∀ s, s < 125 → z_wy P s s < 2 ^ 31) : MI l D cB cI yX0_countWays cX0_countWays 9 (some .int) 2 53 [.ref (ad 0), .int (bI sk)] (xW ad cB cI P wy pl ac vr sl gd lk fx fv sx sw fo cn qa qb qc qd) (fun r_ w_ => r_ = nI (z_sum P sk 125) ∧ ∃ wy', w_ = xW ad cB cI P wy' pl ac vr sl gd lk fx fv sx sw fo cn qa qb qc qd) := by
  refine MI.of (by decide) (Nat.le_of_ble_eq_true rfl) ?_
  intro X eL eD hX hret
  subst eL; subst eD
  have hX : Fx X cX0_countWays RX0 9 2 53 cB cI := hX
  show ww X (xW ad cB cI P wy pl ac vr sl gd lk fx fv sx sw fo cn qa qb qc qd) [(0, .ref (ad 0)), (1, .int (bI sk))] 0 []
  have loop : ∀ (n s : Nat) (w1 : Nat → Nat), s + n = 125 → (∀ j, j < 125 → w1 j = z_wy P s j) → ww X (xW ad cB cI P w1 pl ac vr sl gd lk fx fv sx sw fo cn qa qb qc qd) [(0, .ref (ad 0)), (1, .int (bI sk)), (2, .int (nI (z_sum P sk s))), (3, .int (nI s))] 33 [] := by
    intro n
    induction n with
    | zero =>
      intro s w1 hs h1
      obtain rfl : s = 125 := by omega
      refine ww_iload_n (pc := 33) hX dX0_countWays_33 3 rfl ?_
      refine ww_bipush (pc := 34) (v := nI 125) hX dX0_countWays_34 (by decide) ?_
      refine ww_icmp_geN (pc := 36) (tgt := 196) hX (by omega) (by omega) dX0_countWays_36 (by decide) (fun c1 => ?_) (fun c1 => ?_)
      · refine ww_iload_n (pc := 196) hX dX0_countWays_196 2 rfl ?_
        exact hret _ _ _ _ (rfl) (⟨rfl, w1, rfl⟩) dX0_countWays_197
      · exact absurd c1 (by omega)
    | succ n ih =>
      intro s w1 hs h1
      have hs1 : s < 125 := by omega
      have hws := hw s hs1
      have tail : ∀ w3 : Nat → Nat, (∀ j, j < 125 → w3 j = z_wt P s 3 (z_wy P s) j) → ww X (xW ad cB cI P w3 pl ac vr sl gd lk fx fv sx sw fo cn qa qb qc qd) [(0, .ref (ad 0)), (1, .int (bI sk)), (2, .int (nI (z_sum P sk s))), (3, .int (nI s)), (4, .int (nI (s / 25))), (5, .int (nI ((s / 5) % 5))), (6, .int (nI (s % 5))), (7, .int (bI (z_any P s (z_wy P s) 3)))] 123 [] := by
        intro w3 h3
        have e3 : w3 s = z_wy P s s := (h3 s hs1).trans (z_wt_s P s _ 3)
        have p0 := hok.1 0
        have p1 := hok.1 1
        have p2 := hok.1 2
        have ih_ := ih (s + 1) w3 (by omega) h3
        have J161 : ∀ v_ : Int32, v_ = (bI (z_fin P s)) → ww X (xW ad cB cI P w3 pl ac vr sl gd lk fx fv sx sw fo cn qa qb qc qd) [(0, .ref (ad 0)), (1, .int (bI sk)), (2, .int (nI (z_sum P sk s))), (3, .int (nI s)), (4, .int (nI (s / 25))), (5, .int (nI ((s / 5) % 5))), (6, .int (nI (s % 5))), (7, .int (bI (z_any P s (z_wy P s) 3)))] 161 [.int v_] := by
          rintro _ rfl
          refine ww_istore (pc := 161) (lv' := [(0, .ref (ad 0)), (1, .int (bI sk)), (2, .int (nI (z_sum P sk s))), (3, .int (nI s)), (4, .int (nI (s / 25))), (5, .int (nI ((s / 5) % 5))), (6, .int (nI (s % 5))), (7, .int (bI (z_any P s (z_wy P s) 3))), (8, .int (bI (z_fin P s)))]) hX dX0_countWays_161 (by decide) [1, 2, 3, 4, 5, 6, 7, 8, 0] rfl ?_
          refine ww_iload_n (pc := 163) hX dX0_countWays_163 2 rfl ?_
          have J188 : ∀ v_ : Int32, v_ = (nI (if (z_any P s (z_wy P s) 3 || (sk && z_fin P s)) = true then 0 else z_wy P s s)) → ww X (xW ad cB cI P w3 pl ac vr sl gd lk fx fv sx sw fo cn qa qb qc qd) [(0, .ref (ad 0)), (1, .int (bI sk)), (2, .int (nI (z_sum P sk s))), (3, .int (nI s)), (4, .int (nI (s / 25))), (5, .int (nI ((s / 5) % 5))), (6, .int (nI (s % 5))), (7, .int (bI (z_any P s (z_wy P s) 3))), (8, .int (bI (z_fin P s)))] 188 [.int v_, .int (nI (z_sum P sk s))] := by
            rintro _ rfl
            refine ww_iaddN (pc := 188) hX dX0_countWays_188 ?_
            refine ww_istore_n (pc := 189) (lv' := [(0, .ref (ad 0)), (1, .int (bI sk)), (2, .int (nI ((z_sum P sk s) + (if (z_any P s (z_wy P s) 3 || (sk && z_fin P s)) = true then 0 else z_wy P s s)))), (3, .int (nI s)), (4, .int (nI (s / 25))), (5, .int (nI ((s / 5) % 5))), (6, .int (nI (s % 5))), (7, .int (bI (z_any P s (z_wy P s) 3))), (8, .int (bI (z_fin P s)))]) hX dX0_countWays_189 (by decide) [1, 2, 0, 3, 4, 5, 6, 7, 8] rfl ?_
            refine ww_iincN (pc := 190) (lv' := [(0, .ref (ad 0)), (1, .int (bI sk)), (2, .int (nI ((z_sum P sk s) + (if (z_any P s (z_wy P s) 3 || (sk && z_fin P s)) = true then 0 else z_wy P s s)))), (3, .int (nI (s + 1))), (4, .int (nI (s / 25))), (5, .int (nI ((s / 5) % 5))), (6, .int (nI (s % 5))), (7, .int (bI (z_any P s (z_wy P s) 3))), (8, .int (bI (z_fin P s)))]) hX dX0_countWays_190 3 rfl (by decide) [1, 2, 3, 0, 4, 5, 6, 7, 8] rfl ?_
            refine ww_goto (pc := 193) (tgt := 33) hX dX0_countWays_193 (by decide) ?_
            refine ww_sub [0, 1, 2, 3] rfl (lv := [(0, .ref (ad 0)), (1, .int (bI sk)), (2, .int (nI ((z_sum P sk s) + (if (z_any P s (z_wy P s) 3 || (sk && z_fin P s)) = true then 0 else z_wy P s s)))), (3, .int (nI (s + 1)))]) ?_
            exact ih_
          refine ww_iload (pc := 164) hX dX0_countWays_164 7 rfl ?_
          refine ww_if_neB (pc := 166) (tgt := 178) hX dX0_countWays_166 (by decide) (fun d1 => ?_) (fun d1 => ?_)
          · refine ww_iconst (pc := 178) (v := nI 0) hX dX0_countWays_178 (by decide) ?_
            refine ww_goto (pc := 179) (tgt := 188) hX dX0_countWays_179 (by decide) ?_
            exact J188 _ (by rw [d1, Bool.true_or, if_pos rfl])
          · refine ww_iload_n (pc := 169) hX dX0_countWays_169 1 rfl ?_
            refine ww_if_eqB (pc := 170) (tgt := 182) hX dX0_countWays_170 (by decide) (fun d2 => ?_) (fun d2 => ?_)
            · refine ww_aload_n (pc := 182) hX dX0_countWays_182 0 rfl ?_
              refine xg_ways (pc := 183) hX dX0_countWays_183 ?_
              refine ww_iload_n (pc := 186) hX dX0_countWays_186 3 rfl ?_
              refine xl_ways (pc := 187) hX (by omega) dX0_countWays_187 ?_
              rw [e3]
              exact J188 _ (by rw [d1, d2, Bool.false_and, Bool.or_false, if_neg (by decide)])
            · refine ww_iload (pc := 173) hX dX0_countWays_173 8 rfl ?_
              refine ww_if_eqB (pc := 175) (tgt := 182) hX dX0_countWays_175 (by decide) (fun d3 => ?_) (fun d3 => ?_)
              · refine ww_aload_n (pc := 182) hX dX0_countWays_182 0 rfl ?_
                refine xg_ways (pc := 183) hX dX0_countWays_183 ?_
                refine ww_iload_n (pc := 186) hX dX0_countWays_186 3 rfl ?_
                refine xl_ways (pc := 187) hX (by omega) dX0_countWays_187 ?_
                rw [e3]
                exact J188 _ (by rw [d1, d3, Bool.and_false, Bool.or_false, if_neg (by decide)])
              · refine ww_iconst (pc := 178) (v := nI 0) hX dX0_countWays_178 (by decide) ?_
                refine ww_goto (pc := 179) (tgt := 188) hX dX0_countWays_179 (by decide) ?_
                exact J188 _ (by rw [d1, d2, d3, if_pos (by decide)])
        refine ww_iload (pc := 123) hX dX0_countWays_123 4 rfl ?_
        refine ww_aload_n (pc := 125) hX dX0_countWays_125 0 rfl ?_
        refine xg_sizes (pc := 126) hX dX0_countWays_126 ?_
        refine ww_iconst (pc := 129) (v := nI 0) hX dX0_countWays_129 (by decide) ?_
        refine xl_sizes (pc := 130) hX (by omega) dX0_countWays_130 ?_
        refine ww_icmp_neN (pc := 131) (tgt := 160) hX (by omega) (by omega) dX0_countWays_131 (by decide) (fun c1 => ?_) (fun c1 => ?_)
        · refine ww_iconst (pc := 160) (v := bI false) hX dX0_countWays_160 (by first | decide | rfl) ?_
          exact J161 _ (congrArg bI (decide_eq_false (fun q => c1 q.1)).symm)
        · refine ww_iload (pc := 134) hX dX0_countWays_134 5 rfl ?_
          refine ww_aload_n (pc := 136) hX dX0_countWays_136 0 rfl ?_
          refine xg_sizes (pc := 137) hX dX0_countWays_137 ?_
          refine ww_iconst (pc := 140) (v := nI 1) hX dX0_countWays_140 (by decide) ?_
          refine xl_sizes (pc := 141) hX (by omega) dX0_countWays_141 ?_
          refine ww_icmp_neN (pc := 142) (tgt := 160) hX (by omega) (by omega) dX0_countWays_142 (by decide) (fun c2 => ?_) (fun c2 => ?_)
          · refine ww_iconst (pc := 160) (v := bI false) hX dX0_countWays_160 (by first | decide | rfl) ?_
            exact J161 _ (congrArg bI (decide_eq_false (fun q => c2 q.2.1)).symm)
          · refine ww_iload (pc := 145) hX dX0_countWays_145 6 rfl ?_
            refine ww_aload_n (pc := 147) hX dX0_countWays_147 0 rfl ?_
            refine xg_sizes (pc := 148) hX dX0_countWays_148 ?_
            refine ww_iconst (pc := 151) (v := nI 2) hX dX0_countWays_151 (by decide) ?_
            refine xl_sizes (pc := 152) hX (by omega) dX0_countWays_152 ?_
            refine ww_icmp_neN (pc := 153) (tgt := 160) hX (by omega) (by omega) dX0_countWays_153 (by decide) (fun c3 => ?_) (fun c3 => ?_)
            · refine ww_iconst (pc := 160) (v := bI false) hX dX0_countWays_160 (by first | decide | rfl) ?_
              exact J161 _ (congrArg bI (decide_eq_false (fun q => c3 q.2.2)).symm)
            · refine ww_iconst (pc := 156) (v := bI true) hX dX0_countWays_156 (by first | decide | rfl) ?_
              refine ww_goto (pc := 157) (tgt := 161) hX dX0_countWays_157 (by decide) ?_
              exact J161 _ (congrArg bI (decide_eq_true ⟨c1, c2, c3⟩).symm)
      have inner : ∀ (m t : Nat) (w2 : Nat → Nat), t + m = 3 → (∀ j, j < 125 → w2 j = z_wt P s t (z_wy P s) j) → ww X (xW ad cB cI P w2 pl ac vr sl gd lk fx fv sx sw fo cn qa qb qc qd) [(0, .ref (ad 0)), (1, .int (bI sk)), (2, .int (nI (z_sum P sk s))), (3, .int (nI s)), (4, .int (nI (s / 25))), (5, .int (nI ((s / 5) % 5))), (6, .int (nI (s % 5))), (7, .int (bI (z_any P s (z_wy P s) t))), (8, .int (nI t))] 63 [] := by
        intro m
        induction m with
        | zero =>
          intro t w2 ht h2
          obtain rfl : t = 3 := by omega
          refine ww_iload (pc := 63) hX dX0_countWays_63 8 rfl ?_
          refine ww_iconst (pc := 65) (v := nI 3) hX dX0_countWays_65 (by decide) ?_
          refine ww_icmp_geN (pc := 66) (tgt := 123) hX (by omega) (by omega) dX0_countWays_66 (by decide) (fun c1 => ?_) (fun c1 => ?_)
          · refine ww_sub [0, 1, 2, 3, 4, 5, 6, 7] rfl (lv := [(0, .ref (ad 0)), (1, .int (bI sk)), (2, .int (nI (z_sum P sk s))), (3, .int (nI s)), (4, .int (nI (s / 25))), (5, .int (nI ((s / 5) % 5))), (6, .int (nI (s % 5))), (7, .int (bI (z_any P s (z_wy P s) 3)))]) ?_
            exact tail w2 h2
          · exact absurd c1 (by omega)
        | succ m ihm =>
          intro t w2 ht h2
          have e2 : w2 s = z_wy P s s := (h2 s hs1).trans (z_wt_s P s _ t)
          refine ww_iload (pc := 63) hX dX0_countWays_63 8 rfl ?_
          refine ww_iconst (pc := 65) (v := nI 3) hX dX0_countWays_65 (by decide) ?_
          refine ww_icmp_geN (pc := 66) (tgt := 123) hX (by omega) (by omega) dX0_countWays_66 (by decide) (fun c1 => ?_) (fun c1 => ?_)
          · exact absurd c1 (by omega)
          · refine ww_aload_n (pc := 69) hX dX0_countWays_69 0 rfl ?_
            refine xg_ways (pc := 70) hX dX0_countWays_70 ?_
            refine ww_iload_n (pc := 73) hX dX0_countWays_73 3 rfl ?_
            refine xl_ways (pc := 74) hX (by omega) dX0_countWays_74 ?_
            rw [e2]
            refine ww_if_leN (pc := 75) (tgt := 123) hX (hws) dX0_countWays_75 (by decide) (fun c2 => ?_) (fun c2 => ?_)
            · refine ww_sub [0, 1, 2, 3, 4, 5, 6, 7] rfl (lv := [(0, .ref (ad 0)), (1, .int (bI sk)), (2, .int (nI (z_sum P sk s))), (3, .int (nI s)), (4, .int (nI (s / 25))), (5, .int (nI ((s / 5) % 5))), (6, .int (nI (s % 5))), (7, .int (bI (z_any P s (z_wy P s) t)))]) ?_
              rw [z_any_z P s _ c2, ← z_any_z P s _ c2 3]
              exact tail w2 (fun j hj => by rw [h2 j hj, z_wt_z P s _ c2, z_wt_z P s _ c2])
            · refine ww_aload_n (pc := 78) hX dX0_countWays_78 0 rfl ?_
              refine ww_iload (pc := 79) hX dX0_countWays_79 8 rfl ?_
              refine ww_iload (pc := 81) hX dX0_countWays_81 4 rfl ?_
              refine ww_iload (pc := 83) hX dX0_countWays_83 5 rfl ?_
              refine ww_iload (pc := 85) hX dX0_countWays_85 6 rfl ?_
              refine ww_callI (pc := 87) (n := 4) (rest := []) hX (xm_canTurn t (z_pls s) hok c1 (z_pls_le hs1)) (lw_V q127 q129 qs1 q21 q130) (by decide +kernel) rfl ⟨by decide, by decide⟩ 0 0 rfl rfl rfl (Nat.le_of_ble_eq_true rfl) dX0_countWays_87 (fun r_ w_ hq_ => ?_)
              obtain ⟨rfl, rfl⟩ := hq_
              refine ww_if_eqB (pc := 90) (tgt := 117) hX dX0_countWays_90 (by decide) (fun c3 => ?_) (fun c3 => ?_)
              · refine ww_iincN (pc := 117) (lv' := [(0, .ref (ad 0)), (1, .int (bI sk)), (2, .int (nI (z_sum P sk s))), (3, .int (nI s)), (4, .int (nI (s / 25))), (5, .int (nI ((s / 5) % 5))), (6, .int (nI (s % 5))), (7, .int (bI (z_any P s (z_wy P s) t))), (8, .int (nI (t + 1)))]) hX dX0_countWays_117 8 rfl (by decide) [1, 2, 3, 4, 5, 6, 7, 8, 0] rfl ?_
                refine ww_goto (pc := 120) (tgt := 63) hX dX0_countWays_120 (by decide) ?_
                have i_ := ihm (t + 1) w2 (by omega) (fun j hj => by rw [h2 j hj, z_wt, if_neg (fun q => by rw [c3] at q; exact absurd q.2 (by decide))])
                rw [z_any, c3, Bool.and_false, Bool.or_false] at i_
                exact i_
              · have hin := z_pls_in hok hs1 c1 c3
                refine ww_iconst (pc := 93) (v := bI true) hX dX0_countWays_93 (by first | decide | rfl) ?_
                refine ww_istore (pc := 94) (lv' := [(0, .ref (ad 0)), (1, .int (bI sk)), (2, .int (nI (z_sum P sk s))), (3, .int (nI s)), (4, .int (nI (s / 25))), (5, .int (nI ((s / 5) % 5))), (6, .int (nI (s % 5))), (7, .int (bI true)), (8, .int (nI t))]) hX dX0_countWays_94 (by decide) [1, 2, 3, 4, 5, 6, 7, 0, 8] rfl ?_
                refine ww_aload_n (pc := 96) hX dX0_countWays_96 0 rfl ?_
                refine xg_ways (pc := 97) hX dX0_countWays_97 ?_
                refine ww_iload_n (pc := 100) hX dX0_countWays_100 3 rfl ?_
                refine ww_iload (pc := 101) hX dX0_countWays_101 8 rfl ?_
                refine ww_callS (C := RX0) (pc := 103) (n := 1) (rest := [.int (nI s), .ref (ad 6)]) hX (xm_stride t c1) (lw_S q135 q136 q21 q137) (by decide +kernel) rfl ⟨by decide, by decide⟩ rfl (Nat.le_of_ble_eq_true rfl) dX0_countWays_103 (fun r_ w_ hq_ => ?_)
                obtain ⟨rfl, rfl⟩ := hq_
                refine ww_iaddN (pc := 106) hX dX0_countWays_106 ?_
                refine ww_dup2 (pc := 107) hX dX0_countWays_107 rfl rfl ?_
                refine xl_ways (pc := 108) hX (by omega) dX0_countWays_108 ?_
                refine ww_aload_n (pc := 109) hX dX0_countWays_109 0 rfl ?_
                refine xg_ways (pc := 110) hX dX0_countWays_110 ?_
                refine ww_iload_n (pc := 113) hX dX0_countWays_113 3 rfl ?_
                refine xl_ways (pc := 114) hX (by omega) dX0_countWays_114 ?_
                refine ww_iaddN (pc := 115) hX dX0_countWays_115 ?_
                refine xs_ways (pc := 116) hX (by omega) dX0_countWays_116 ?_
                refine ww_iincN (pc := 117) (lv' := [(0, .ref (ad 0)), (1, .int (bI sk)), (2, .int (nI (z_sum P sk s))), (3, .int (nI s)), (4, .int (nI (s / 25))), (5, .int (nI ((s / 5) % 5))), (6, .int (nI (s % 5))), (7, .int (bI true)), (8, .int (nI (t + 1)))]) hX dX0_countWays_117 8 rfl (by decide) [1, 2, 3, 4, 5, 6, 7, 8, 0] rfl ?_
                refine ww_goto (pc := 120) (tgt := 63) hX dX0_countWays_120 (by decide) ?_
                have hp := z_std_pos t
                have i_ := ihm (t + 1) (va_up w2 (s + z_std t) (w2 (s + z_std t) + w2 s)) (by omega) (fun j hj => by
                  rw [z_wt, if_pos ⟨c2, c3⟩]
                  by_cases hjj : j = s + z_std t
                  · subst hjj; rw [va_up_self, va_up_self, h2 _ hj, e2]
                  · rw [va_up_ne _ _ hjj, va_up_ne _ _ hjj, h2 j hj])
                rw [z_any, c3, decide_eq_true c2, Bool.and_self, Bool.or_true] at i_
                exact i_
      refine ww_iload_n (pc := 33) hX dX0_countWays_33 3 rfl ?_
      refine ww_bipush (pc := 34) (v := nI 125) hX dX0_countWays_34 (by decide) ?_
      refine ww_icmp_geN (pc := 36) (tgt := 196) hX (by omega) (by omega) dX0_countWays_36 (by decide) (fun c1 => ?_) (fun c1 => ?_)
      · exact absurd c1 (by omega)
      · refine ww_iload_n (pc := 39) hX dX0_countWays_39 3 rfl ?_
        refine ww_bipush (pc := 40) (v := nI 25) hX dX0_countWays_40 (by decide) ?_
        refine ww_idivN (pc := 42) hX (by omega) (by decide) (by decide) dX0_countWays_42 ?_
        refine ww_istore (pc := 43) (lv' := [(0, .ref (ad 0)), (1, .int (bI sk)), (2, .int (nI (z_sum P sk s))), (3, .int (nI s)), (4, .int (nI (s / 25)))]) hX dX0_countWays_43 (by decide) [1, 2, 3, 4, 0] rfl ?_
        refine ww_iload_n (pc := 45) hX dX0_countWays_45 3 rfl ?_
        refine ww_iconst (pc := 46) (v := nI 5) hX dX0_countWays_46 (by decide) ?_
        refine ww_idivN (pc := 47) hX (by omega) (by decide) (by decide) dX0_countWays_47 ?_
        refine ww_iconst (pc := 48) (v := nI 5) hX dX0_countWays_48 (by decide) ?_
        refine ww_iremN (pc := 49) hX (by omega) (by decide) (by decide) dX0_countWays_49 ?_
        refine ww_istore (pc := 50) (lv' := [(0, .ref (ad 0)), (1, .int (bI sk)), (2, .int (nI (z_sum P sk s))), (3, .int (nI s)), (4, .int (nI (s / 25))), (5, .int (nI ((s / 5) % 5)))]) hX dX0_countWays_50 (by decide) [1, 2, 3, 4, 5, 0] rfl ?_
        refine ww_iload_n (pc := 52) hX dX0_countWays_52 3 rfl ?_
        refine ww_iconst (pc := 53) (v := nI 5) hX dX0_countWays_53 (by decide) ?_
        refine ww_iremN (pc := 54) hX (by omega) (by decide) (by decide) dX0_countWays_54 ?_
        refine ww_istore (pc := 55) (lv' := [(0, .ref (ad 0)), (1, .int (bI sk)), (2, .int (nI (z_sum P sk s))), (3, .int (nI s)), (4, .int (nI (s / 25))), (5, .int (nI ((s / 5) % 5))), (6, .int (nI (s % 5)))]) hX dX0_countWays_55 (by decide) [1, 2, 3, 4, 5, 6, 0] rfl ?_
        refine ww_iconst (pc := 57) (v := bI (z_any P s (z_wy P s) 0)) hX dX0_countWays_57 (by first | decide | rfl) ?_
        refine ww_istore (pc := 58) (lv' := [(0, .ref (ad 0)), (1, .int (bI sk)), (2, .int (nI (z_sum P sk s))), (3, .int (nI s)), (4, .int (nI (s / 25))), (5, .int (nI ((s / 5) % 5))), (6, .int (nI (s % 5))), (7, .int (bI (z_any P s (z_wy P s) 0)))]) hX dX0_countWays_58 (by decide) [1, 2, 3, 4, 5, 6, 7, 0] rfl ?_
        refine ww_iconst (pc := 60) (v := nI 0) hX dX0_countWays_60 (by decide) ?_
        refine ww_istore (pc := 61) (lv' := [(0, .ref (ad 0)), (1, .int (bI sk)), (2, .int (nI (z_sum P sk s))), (3, .int (nI s)), (4, .int (nI (s / 25))), (5, .int (nI ((s / 5) % 5))), (6, .int (nI (s % 5))), (7, .int (bI (z_any P s (z_wy P s) 0))), (8, .int (nI 0))]) hX dX0_countWays_61 (by decide) [1, 2, 3, 4, 5, 6, 7, 8, 0] rfl ?_
        exact inner 3 0 w1 (by omega) h1
  have first : ∀ n i : Nat, i + n = 125 → ww X (xW ad cB cI P (z_w1 i wy) pl ac vr sl gd lk fx fv sx sw fo cn qa qb qc qd) [(0, .ref (ad 0)), (1, .int (bI sk)), (2, .int (nI i))] 2 [] := by
    intro n
    induction n with
    | zero =>
      intro i hi
      obtain rfl : i = 125 := by omega
      refine ww_iload_n (pc := 2) hX dX0_countWays_2 2 rfl ?_
      refine ww_bipush (pc := 3) (v := nI 125) hX dX0_countWays_3 (by decide) ?_
      refine ww_icmp_geN (pc := 5) (tgt := 29) hX (by omega) (by omega) dX0_countWays_5 (by decide) (fun c1 => ?_) (fun c1 => ?_)
      · refine ww_iconst (pc := 29) (v := nI (z_sum P sk 0)) hX dX0_countWays_29 (by first | decide | rfl) ?_
        refine ww_istore_n (pc := 30) (lv' := [(0, .ref (ad 0)), (1, .int (bI sk)), (2, .int (nI (z_sum P sk 0)))]) hX dX0_countWays_30 (by decide) [1, 2, 0] rfl ?_
        refine ww_iconst (pc := 31) (v := nI 0) hX dX0_countWays_31 (by decide) ?_
        refine ww_istore_n (pc := 32) (lv' := [(0, .ref (ad 0)), (1, .int (bI sk)), (2, .int (nI (z_sum P sk 0))), (3, .int (nI 0))]) hX dX0_countWays_32 (by decide) [1, 2, 3, 0] rfl ?_
        exact loop 125 0 _ (by omega) (fun j hj => by rw [z_w1, if_pos hj, z_wy])
      · exact absurd c1 (by omega)
    | succ n ih =>
      intro i hi
      have ih_ := ih (i + 1) (by omega)
      refine ww_iload_n (pc := 2) hX dX0_countWays_2 2 rfl ?_
      refine ww_bipush (pc := 3) (v := nI 125) hX dX0_countWays_3 (by decide) ?_
      refine ww_icmp_geN (pc := 5) (tgt := 29) hX (by omega) (by omega) dX0_countWays_5 (by decide) (fun c1 => ?_) (fun c1 => ?_)
      · exact absurd c1 (by omega)
      · refine ww_aload_n (pc := 8) hX dX0_countWays_8 0 rfl ?_
        refine xg_ways (pc := 9) hX dX0_countWays_9 ?_
        refine ww_iload_n (pc := 12) hX dX0_countWays_12 2 rfl ?_
        have J22 : ∀ v_ : Int32, v_ = (nI (if i = 0 then 1 else 0)) → ww X (xW ad cB cI P (z_w1 i wy) pl ac vr sl gd lk fx fv sx sw fo cn qa qb qc qd) [(0, .ref (ad 0)), (1, .int (bI sk)), (2, .int (nI i))] 22 [.int v_, .int (nI i), .ref (ad 6)] := by
          rintro _ rfl
          refine xs_ways (pc := 22) hX (by omega) dX0_countWays_22 ?_
          refine ww_iincN (pc := 23) (lv' := [(0, .ref (ad 0)), (1, .int (bI sk)), (2, .int (nI (i + 1)))]) hX dX0_countWays_23 2 rfl (by decide) [1, 2, 0] rfl ?_
          refine ww_goto (pc := 26) (tgt := 2) hX dX0_countWays_26 (by decide) ?_
          rw [z_w1_up]
          exact ih_
        refine ww_iload_n (pc := 13) hX dX0_countWays_13 2 rfl ?_
        refine ww_if_neN (pc := 14) (tgt := 21) hX (by omega) dX0_countWays_14 (by decide) (fun c2 => ?_) (fun c2 => ?_)
        · refine ww_iconst (pc := 21) (v := nI 0) hX dX0_countWays_21 (by decide) ?_
          exact J22 _ (by rw [if_neg c2])
        · refine ww_iconst (pc := 17) (v := nI 1) hX dX0_countWays_17 (by decide) ?_
          refine ww_goto (pc := 18) (tgt := 22) hX dX0_countWays_18 (by decide) ?_
          exact J22 _ (by rw [if_pos c2])
  refine ww_iconst (pc := 0) (v := nI 0) hX dX0_countWays_0 (by decide) ?_
  refine ww_istore_n (pc := 1) (lv' := [(0, .ref (ad 0)), (1, .int (bI sk)), (2, .int (nI 0))]) hX dX0_countWays_1 (by decide) [1, 2, 0] rfl ?_
  have f0 := first 125 0 (by omega)
  rw [z_w1_0] at f0
  exact f0
set_option maxHeartbeats 4000000 in
set_option maxRecDepth 100000 in
/-- schedules -/
theorem xm_schedules (hok : pOk P) (hw : ∀ s, s < 125 → z_wy P s s < 2 ^ 31) : MI l D cB cI yX0_schedules cX0_schedules 1 (some .int) 3 81 [.ref (ad 0)] (xW ad cB cI P wy pl ac vr sl gd lk fx fv sx sw fo cn qa qb qc qd) (fun r_ w_ => r_ = nI (z_sum P false 125) ∧ ∃ wy', w_ = xW ad cB cI P wy' pl ac vr sl gd lk fx fv sx sw fo cn qa qb qc qd) := by
  refine MI.of (by decide) (Nat.le_of_ble_eq_true rfl) ?_
  intro X eL eD hX hret
  subst eL; subst eD
  have hX : Fx X cX0_schedules RX0 1 3 81 cB cI := hX
  show ww X (xW ad cB cI P wy pl ac vr sl gd lk fx fv sx sw fo cn qa qb qc qd) [(0, .ref (ad 0))] 0 []
  refine ww_aload_n (pc := 0) hX dX0_schedules_0 0 rfl ?_
  refine ww_iconst (pc := 1) (v := bI false) hX dX0_schedules_1 (by first | decide | rfl) ?_
  refine ww_callI (pc := 2) (n := 1) (rest := []) hX (xm_countWays false hok hw) (lw_V q123 q125 qs0 q21 q126) (by decide +kernel) rfl ⟨by decide, by decide⟩ 0 0 rfl rfl rfl (Nat.le_of_ble_eq_true rfl) dX0_schedules_2 (fun r_ w_ hq_ => ?_)
  obtain ⟨rfl, wy1, rfl⟩ := hq_
  exact hret _ _ _ _ (rfl) (⟨rfl, _, rfl⟩) dX0_schedules_5
set_option maxHeartbeats 4000000 in
set_option maxRecDepth 100000 in
/-- canStick -/
theorem xm_canStick (hok : pOk P) (hw : ∀ s, s < 125 → z_wy P s s < 2 ^ 31) (hz : z_sum P true 125 < 2 ^ 31) : MI l D cB cI yX0_canStick cX0_canStick 1 (some .boolean) 3 81 [.ref (ad 0)] (xW ad cB cI P wy pl ac vr sl gd lk fx fv sx sw fo cn qa qb qc qd) (fun r_ w_ => r_ = bI (decide (0 < z_sum P true 125)) ∧ ∃ wy', w_ = xW ad cB cI P wy' pl ac vr sl gd lk fx fv sx sw fo cn qa qb qc qd) := by
  refine MI.of (by decide) (Nat.le_of_ble_eq_true rfl) ?_
  intro X eL eD hX hret
  subst eL; subst eD
  have hX : Fx X cX0_canStick RX0 1 3 81 cB cI := hX
  show ww X (xW ad cB cI P wy pl ac vr sl gd lk fx fv sx sw fo cn qa qb qc qd) [(0, .ref (ad 0))] 0 []
  refine ww_aload_n (pc := 0) hX dX0_canStick_0 0 rfl ?_
  refine ww_iconst (pc := 1) (v := bI true) hX dX0_canStick_1 (by first | decide | rfl) ?_
  refine ww_callI (pc := 2) (n := 1) (rest := []) hX (xm_countWays true hok hw) (lw_V q123 q125 qs0 q21 q126) (by decide +kernel) rfl ⟨by decide, by decide⟩ 0 0 rfl rfl rfl (Nat.le_of_ble_eq_true rfl) dX0_canStick_2 (fun r_ w_ hq_ => ?_)
  obtain ⟨rfl, wy1, rfl⟩ := hq_
  refine ww_if_leN (pc := 5) (tgt := 12) hX (hz) dX0_canStick_5 (by decide) (fun c1 => ?_) (fun c1 => ?_)
  · refine ww_iconst (pc := 12) (v := bI false) hX dX0_canStick_12 (by first | decide | rfl) ?_
    exact hret _ _ _ _ (nb_b _) (⟨congrArg bI (decide_eq_false (by omega)).symm, _, rfl⟩) dX0_canStick_13
  · refine ww_iconst (pc := 8) (v := bI true) hX dX0_canStick_8 (by first | decide | rfl) ?_
    refine ww_goto (pc := 9) (tgt := 13) hX dX0_canStick_9 (by decide) ?_
    exact hret _ _ _ _ (nb_b _) (⟨congrArg bI (decide_eq_true c1).symm, _, rfl⟩) dX0_canStick_13
end XE
end
section
/-! the walk as a recursion; G is any predicate of the loop's states -/
def z_vt (P : Pg) (V : Zs → (Nat → Bool) → Za → Za) (g : Zs) (S : Nat → Bool) (A : Za) : Nat → Za
  | 0 => A
  | t + 1 => if (z_can P g.1 t && !S t) = true then V (z_stp P t g) (z_slp P g.1 t (fun s => S s || (decide (s < t) && z_can P g.1 s))) (z_vt P V g S A t) else z_vt P V g S A t
def z_vis (P : Pg) (fx : Nat) (fv : Int32) (sx : Nat) (sw : Int32) : Nat → Zs → (Nat → Bool) → Za → Za
  | 0 => fun g _ A => z_arr fx fv sx sw g A
  | n + 1 => fun g S A => if z_mk (z_can P g.1) = 0 then z_arr fx fv sx sw g A else z_vt P (z_vis P fx fv sx sw n) g S A 3
theorem z_arr_mono {fx : Nat} {fv : Int32} {sx : Nat} {sw : Int32} {g : Zs} {A : Za} (h : A.1 = true) : (z_arr fx fv sx sw g A).1 = true := by
  show (A.1 || _) = true
  rw [h, Bool.true_or]
theorem z_vt_mono {P : Pg} {V : Zs → (Nat → Bool) → Za → Za} (hV : ∀ g S A, A.1 = true → (V g S A).1 = true) {g : Zs} {S : Nat → Bool} {A : Za} : ∀ (m t : Nat), (z_vt P V g S A t).1 = true → (z_vt P V g S A (t + m)).1 = true
  | 0, t, h => h
  | m + 1, t, h => by
    have ih := z_vt_mono hV m t h
    show (z_vt P V g S A (t + m + 1)).1 = true
    rw [z_vt]
    split
    · exact hV _ _ _ ih
    · exact ih
theorem z_vis_mono {P : Pg} {fx : Nat} {fv : Int32} {sx : Nat} {sw : Int32} : ∀ (n : Nat) (g : Zs) (S : Nat → Bool) (A : Za), A.1 = true → (z_vis P fx fv sx sw n g S A).1 = true
  | 0, g, S, A, h => z_arr_mono h
  | n + 1, g, S, A, h => by
    show (if z_mk (z_can P g.1) = 0 then z_arr fx fv sx sw g A else z_vt P (z_vis P fx fv sx sw n) g S A 3).1 = true
    split
    · exact z_arr_mono h
    · exact z_vt_mono (z_vis_mono n) 3 0 h
theorem z_tb_mk (f : Nat → Bool) {t : Nat} (ht : t < 3) : z_tb (z_mk f) t = f t := by
  rcases (show t = 0 ∨ t = 1 ∨ t = 2 by omega) with rfl | rfl | rfl <;> unfold z_mk <;> cases h0 : f 0 <;> cases h1 : f 1 <;> cases h2 : f 2 <;> decide
theorem z_mk_congr {f f' : Nat → Bool} (h : ∀ t, t < 3 → f t = f' t) : z_mk f = z_mk f' := by
  unfold z_mk
  rw [h 0 (by decide), h 1 (by decide), h 2 (by decide)]
theorem z_fst_congr {f f' : Nat → Bool} (h : ∀ t, t < 3 → f t = f' t) : z_fst f = z_fst f' := by
  unfold z_fst
  rw [h 0 (by decide), h 1 (by decide), h 2 (by decide)]
theorem z_mk_0 {f : Nat → Bool} : z_mk f = 0 ↔ ∀ t, t < 3 → f t = false := by
  constructor
  · intro h t ht
    rw [← z_tb_mk f ht, h]
    rcases (show t = 0 ∨ t = 1 ∨ t = 2 by omega) with rfl | rfl | rfl <;> rfl
  · intro h
    unfold z_mk
    rw [h 0 (by decide), h 1 (by decide), h 2 (by decide)]
    rfl
/-- the set grows by t -/
theorem z_mk_add {f f' : Nat → Bool} {t : Nat} (ht : t < 3) (h0 : f t = false) (h1 : f' t = true) (h : ∀ s, s < 3 → s ≠ t → f' s = f s) : z_mk f + 2 ^ t = z_mk f' := by
  rcases (show t = 0 ∨ t = 1 ∨ t = 2 by omega) with rfl | rfl | rfl
  · unfold z_mk; rw [h0, h1, h 1 (by decide) (by decide), h 2 (by decide) (by decide)]; cases f 1 <;> cases f 2 <;> decide
  · unfold z_mk; rw [h0, h1, h 0 (by decide) (by decide), h 2 (by decide) (by decide)]; cases f 0 <;> cases f 2 <;> decide
  · unfold z_mk; rw [h0, h1, h 0 (by decide) (by decide), h 1 (by decide) (by decide)]; cases f 0 <;> cases f 1 <;> decide
theorem z_can_lt {P : Pg} {a : Nat → Nat} {t : Nat} (h : z_can P a t = true) : a t < pS P t := by
  unfold z_can at h
  rw [Bool.and_eq_true] at h
  exact of_decide_eq_true h.1
/-- a state's places: within the sizes, L in all -/
def z_in (P : Pg) (g : Zs) (L : Nat) : Prop := (∀ t, t < 3 → g.1 t ≤ pS P t) ∧ g.1 0 + g.1 1 + g.1 2 = L
theorem z_in_stp {P : Pg} {g : Zs} {L t : Nat} (h : z_in P g L) (ht : t < 3) (hc : z_can P g.1 t = true) : z_in P (z_stp P t g) (L + 1) := by
  have hl := z_can_lt hc
  obtain ⟨h1, h2⟩ := h
  refine ⟨fun s hs => ?_, ?_⟩
  · show va_up g.1 t (g.1 t + 1) s ≤ _
    by_cases hst : s = t
    · subst hst; rw [va_up_self]; omega
    · rw [va_up_ne _ _ hst]; exact h1 s hs
  · show va_up g.1 t (g.1 t + 1) 0 + va_up g.1 t (g.1 t + 1) 1 + va_up g.1 t (g.1 t + 1) 2 = _
    rcases (show t = 0 ∨ t = 1 ∨ t = 2 by omega) with rfl | rfl | rfl
    · rw [va_up_self, va_up_ne _ _ (by decide), va_up_ne _ _ (by decide)]; omega
    · rw [va_up_self, va_up_ne _ _ (by decide), va_up_ne _ _ (by decide)]; omega
    · rw [va_up_self, va_up_ne _ _ (by decide), va_up_ne _ _ (by decide)]; omega
theorem z_in_le {P : Pg} (hok : pOk P) {g : Zs} {L t : Nat} (h : z_in P g L) (ht : t < 3) (hc : z_can P g.1 t = true) : L ≤ 11 := by
  have hl := z_can_lt hc
  obtain ⟨h1, h2⟩ := h
  have a0 := h1 0 (by decide); have a1 := h1 1 (by decide); have a2 := h1 2 (by decide)
  have b0 := hok.1 0; have b1 := hok.1 1; have b2 := hok.1 2
  rcases (show t = 0 ∨ t = 1 ∨ t = 2 by omega) with rfl | rfl | rfl <;> omega
/-- a turn leaves the next state in the next level -/
theorem z_nd_turn {P : Pg} (hok : pOk P) (pl : Nat → Nat) (ac vr : Nat → Int32) (L t : Nat) (ht : t < 3) : z_nd (z_tpl pl L t) (z_tac P pl ac vr L t) (z_tvr P pl ac vr L t) (L + 1) = z_stp P t (z_nd pl ac vr L) := by
  have hidx : ∀ i, (L + 1) * 3 + i = L * 3 + 3 + i := fun i => by omega
  have ept : c3N (fun i => pl (L * 3 + i)) t = pl (L * 3 + t) := by rw [c3N, if_pos ht]
  have eat : c3V (fun i => ac (L * 3 + i)) t = ac (L * 3 + t) := by rw [c3V, if_pos ht]
  have hA : ∀ i, i < 3 → z_cp ac (L * 3) 3 (L * 3 + 3 + i) = ac (L * 3 + i) := fun i hi => z_cp_hi hi
  have hV : ∀ i, i < 3 → z_cp vr (L * 3) 3 (L * 3 + 3 + i) = vr (L * 3 + i) := fun i hi => z_cp_hi hi
  have e1 : c3N (fun i => z_tpl pl L t ((L + 1) * 3 + i)) = va_up (c3N (fun i => pl (L * 3 + i))) t (c3N (fun i => pl (L * 3 + i)) t + 1) := by
    rw [ept]
    funext i
    by_cases hit : i = t
    · subst hit
      rw [va_up_self, c3N, if_pos ht, hidx, z_tpl, va_up_self]
    · rw [va_up_ne _ _ hit]
      by_cases hi : i < 3
      · rw [c3N, if_pos hi, c3N, if_pos hi, hidx, z_tpl, va_up_ne _ _ (by omega), z_cp_hi hi]
      · rw [c3N, if_neg hi, c3N, if_neg hi]
  -- updates of a level, seen by its state
  have upV : ∀ (f : Nat → Int32) (k : Nat) (x : Int32), k < 3 → c3V (fun i => va_up f (L * 3 + 3 + k) x ((L + 1) * 3 + i)) = va_up (c3V (fun i => f (L * 3 + 3 + i))) k x := by
    intro f k x hk
    funext i
    by_cases hik : i = k
    · subst hik
      rw [va_up_self, c3V, if_pos hk, hidx, va_up_self]
    · rw [va_up_ne _ _ hik]
      by_cases hi : i < 3
      · rw [c3V, if_pos hi, c3V, if_pos hi, hidx, va_up_ne _ _ (by omega)]
      · rw [c3V, if_neg hi, c3V, if_neg hi]
  have cpV : ∀ (f : Nat → Int32), c3V (fun i => z_cp f (L * 3) 3 (L * 3 + 3 + i)) = c3V (fun i => f (L * 3 + i)) := by
    intro f
    funext i
    by_cases hi : i < 3
    · rw [c3V, if_pos hi, c3V, if_pos hi, z_cp_hi hi]
    · rw [c3V, if_neg hi, c3V, if_neg hi]
  have cpV' : ∀ (f : Nat → Int32), c3V (fun i => z_cp f (L * 3) 3 ((L + 1) * 3 + i)) = c3V (fun i => f (L * 3 + i)) := by
    intro f
    rw [← cpV f]
    funext i
    simp only [c3V, hidx]
  unfold z_nd z_stp
  refine Prod.ext e1 (Prod.ext ?_ ?_)
  · show c3V (fun i => z_tvr P pl ac vr L t ((L + 1) * 3 + i)) = _
    simp only [z_tvr, z_cvr, ept, eat]
    by_cases hk : pK P (t * 4 + pl (L * 3 + t)) = 1 ∨ pK P (t * 4 + pl (L * 3 + t)) = 2
    · obtain ⟨j, hj, ej⟩ := (hok.2 (t * 4 + pl (L * 3 + t))).2.1 (by omega)
      have ec : (pN P (t * 4 + pl (L * 3 + t))).toNatClampNeg = j := by rw [ej]; exact nI_clamp (by omega)
      rw [if_pos hk, if_pos hk, ec, upV _ _ _ hj, cpV, hA t ht]
    · rw [if_neg hk, if_neg hk, cpV']
  · show c3V (fun i => z_tac P pl ac vr L t ((L + 1) * 3 + i)) = _
    simp only [z_tac, z_cac, ept, eat]
    by_cases h3 : pK P (t * 4 + pl (L * 3 + t)) = 3
    · rw [if_pos h3, if_pos h3, upV _ _ _ ht, cpV, hA t ht]
    · rw [if_neg h3, if_neg h3]
      by_cases hk : pK P (t * 4 + pl (L * 3 + t)) = 0 ∨ pK P (t * 4 + pl (L * 3 + t)) = 2
      · obtain ⟨j, hj, ej⟩ := (hok.2 (t * 4 + pl (L * 3 + t))).2.1 (by omega)
        have ec : (pN P (t * 4 + pl (L * 3 + t))).toNatClampNeg = j := by rw [ej]; exact nI_clamp (by omega)
        rw [if_pos hk, if_pos hk, ec, upV _ _ _ ht, cpV, hV j hj, c3V, if_pos hj]
      · rw [if_neg hk, if_neg hk, cpV']
/-- a turn leaves the lower levels -/
theorem z_turn_lo {P : Pg} (pl : Nat → Nat) (ac vr : Nat → Int32) (L t j : Nat) (hj : j < L * 3 + 3) : z_tpl pl L t j = pl j ∧ z_tac P pl ac vr L t j = ac j ∧ z_tvr P pl ac vr L t j = vr j := by
  have ha : z_cp ac (L * 3) 3 j = ac j := z_cp_lo hj
  have hv : z_cp vr (L * 3) 3 j = vr j := z_cp_lo hj
  refine ⟨?_, ?_, ?_⟩
  · rw [z_tpl, va_up_ne _ _ (by omega), z_cp_lo hj]
  · unfold z_tac z_cac
    split
    · rw [va_up_ne _ _ (by omega), ha]
    · split
      · rw [va_up_ne _ _ (by omega), ha]
      · exact ha
  · unfold z_tvr z_cvr
    split
    · rw [va_up_ne _ _ (by omega), hv]
    · exact hv
end
section
def z_cost : Nat → Nat
  | 0 => 1
  | n + 1 => 1 + 3 * (1 + z_cost n)
def z_had (P : Pg) (g : Zs) (S : Nat → Bool) (t : Nat) : Nat → Bool := fun s => decide (s < t) && z_can P g.1 s && !S s
abbrev z_cnd (P : Pg) (pl : Nat → Nat) (sl gd : Nat → Nat) (L : Nat) : Nat → Bool := fun t => z_can P (c3N (fun i => pl (L * 3 + i))) t && !z_tb (sl L) t && !z_tb (gd L) t
abbrev z_G := Nat → Nat → (Nat → Nat) → (Nat → Int32) → (Nat → Int32) → (Nat → Nat) → (Nat → Nat) → Za → Prop
/-- what the loop's body gives: one round at a level -/
def z_Body (P : Pg) (lk : Bool) (fx : Nat) (fv : Int32) (sx : Nat) (sw : Int32) (G : z_G) : Prop :=
  ∀ (r L : Nat) (pl : Nat → Nat) (ac vr : Nat → Int32) (sl gd : Nat → Nat) (A : Za), r < 2 ^ 21 → L ≤ 12 → (∀ i, i < 3 → pl (L * 3 + i) ≤ 4) → sl L < 8 → gd L < 8 →
    (∀ t, t < 3 → z_can P (c3N (fun i => pl (L * 3 + i))) t = true → L ≤ 11 ∧ pl (L * 3 + t) ≤ 3) → (∀ s, s < 3 → (z_tb (sl L) s || z_tb (gd L) s) = true → pl (L * 3 + s) ≤ 3) → (lk && A.1) = false → A.2.1 ≤ r →
    (z_fst (z_cnd P pl sl gd L) = none → G (r + 1) L pl ac vr sl gd (if z_mk (z_can P (c3N (fun i => pl (L * 3 + i)))) = 0 then z_arr fx fv sx sw (z_nd pl ac vr L) A else A)) →
    (∀ t, t < 3 → z_fst (z_cnd P pl sl gd L) = some t → G (r + 1) (L + 2) (z_tpl pl L t) (z_tac P pl ac vr L t) (z_tvr P pl ac vr L t) (z_tsl P pl sl gd L t) (va_up (va_up gd (L + 1) 0) L (gd L + 2 ^ t)) A) → G r (L + 1) pl ac vr sl gd A
theorem z_fst_none {f : Nat → Bool} (h : ∀ t, t < 3 → f t = false) : z_fst f = none := by
  unfold z_fst
  rw [h 0 (by decide), h 1 (by decide), h 2 (by decide)]
  rfl
theorem z_fst_some {f : Nat → Bool} {t : Nat} (ht : t < 3) (h1 : f t = true) (h : ∀ s, s < t → f s = false) : z_fst f = some t := by
  unfold z_fst
  rcases (show t = 0 ∨ t = 1 ∨ t = 2 by omega) with rfl | rfl | rfl
  · rw [h1]; rfl
  · rw [h 0 (by decide), h1]; rfl
  · rw [h 0 (by decide), h 1 (by decide), h1]; rfl
theorem z_fst_sp {f : Nat → Bool} {t : Nat} (h : z_fst f = some t) : t < 3 ∧ f t = true ∧ ∀ s, s < t → f s = false := by
  unfold z_fst at h
  cases h0 : f 0
  · rw [h0] at h
    cases h1 : f 1
    · rw [h1] at h
      cases h2 : f 2
      · rw [h2] at h; cases h
      · rw [h2] at h
        cases h
        refine ⟨by decide, h2, fun s hs => ?_⟩
        rcases (show s = 0 ∨ s = 1 by omega) with rfl | rfl
        · exact h0
        · exact h1
    · rw [h1] at h
      cases h
      refine ⟨by decide, h1, fun s hs => ?_⟩
      obtain rfl : s = 0 := by omega
      exact h0
  · rw [h0] at h
    cases h
    exact ⟨by decide, h0, fun s hs => absurd hs (by omega)⟩
theorem z_fst_np {f : Nat → Bool} (h : z_fst f = none) : ∀ t, t < 3 → f t = false := by
  intro t ht
  cases hf : f t
  · rfl
  · exfalso
    unfold z_fst at h
    rcases (show t = 0 ∨ t = 1 ∨ t = 2 by omega) with rfl | rfl | rfl
    · rw [hf] at h; cases h
    · rw [hf] at h; cases h0 : f 0 <;> rw [h0] at h <;> cases h
    · rw [hf] at h; cases h0 : f 0 <;> cases h1 : f 1 <;> rw [h0] at h <;> (try rw [h1] at h) <;> cases h
theorem z_nd_congr {pl pl' : Nat → Nat} {ac ac' vr vr' : Nat → Int32} {L : Nat} (h : ∀ j, j < L * 3 + 3 → pl' j = pl j ∧ ac' j = ac j ∧ vr' j = vr j) : z_nd pl' ac' vr' L = z_nd pl ac vr L := by
  unfold z_nd
  refine Prod.ext ?_ (Prod.ext ?_ ?_)
  · funext i
    by_cases hi : i < 3
    · simp only [c3N, if_pos hi]; exact (h _ (by omega)).1
    · simp only [c3N, if_neg hi]
  · funext i
    by_cases hi : i < 3
    · simp only [c3V, if_pos hi]; exact (h _ (by omega)).2.2
    · simp only [c3V, if_neg hi]
  · funext i
    by_cases hi : i < 3
    · simp only [c3V, if_pos hi]; exact (h _ (by omega)).2.1
    · simp only [c3V, if_neg hi]
theorem z_dfs {P : Pg} (hok : pOk P) {lk : Bool} {fx : Nat} {fv : Int32} {sx : Nat} {sw : Int32} {Z : Za} {G : z_G}
    (hex : ∀ r L pl ac vr sl gd (A : Za), lk = true → A.1 = true → Z.1 = true → G r (L + 1) pl ac vr sl gd A) (hbody : z_Body P lk fx fv sx sw G) :
    ∀ (n L : Nat) (g : Zs) (S : Nat → Bool), n + L = 12 → z_in P g L → (∀ s, s < 3 → S s = true → g.1 s < pS P s) →
    ∀ (r : Nat) (pl : Nat → Nat) (ac vr : Nat → Int32) (sl gd : Nat → Nat) (A : Za), z_nd pl ac vr L = g → sl L = z_mk S → gd L = 0 → r + z_cost n ≤ 2 ^ 21 → A.2.1 ≤ r → ((z_vis P fx fv sx sw n g S A).1 = true → Z.1 = true) →
    (∀ r' pl' ac' vr' sl' gd', r' ≤ r + z_cost n → (∀ j, j < L * 3 → pl' j = pl j ∧ ac' j = ac j ∧ vr' j = vr j) → (∀ j, j < L → sl' j = sl j ∧ gd' j = gd j) → (z_vis P fx fv sx sw n g S A).2.1 ≤ r' → G r' L pl' ac' vr' sl' gd' (z_vis P fx fv sx sw n g S A)) →
    G r (L + 1) pl ac vr sl gd A := by
  -- a level where nobody can have a turn
  have leaf : ∀ (n L : Nat) (g : Zs) (S : Nat → Bool), n + L = 12 → z_in P g L → (∀ s, s < 3 → S s = true → g.1 s < pS P s) → (∀ t, t < 3 → z_can P g.1 t = false) →
      ∀ (r : Nat) (pl : Nat → Nat) (ac vr : Nat → Int32) (sl gd : Nat → Nat) (A : Za), z_nd pl ac vr L = g → sl L = z_mk S → gd L = 0 → r < 2 ^ 21 → A.2.1 ≤ r → ((z_arr fx fv sx sw g A).1 = true → Z.1 = true) →
      G (r + 1) L pl ac vr sl gd (z_arr fx fv sx sw g A) → G r (L + 1) pl ac vr sl gd A := by
    intro n L g S hn hin hS hc r pl ac vr sl gd A hnd hsl hgd hr hA hfin K
    cases hE : (lk && A.1)
    · have eg : c3N (fun i => pl (L * 3 + i)) = g.1 := congrArg Prod.fst hnd
      have ep : ∀ i, i < 3 → pl (L * 3 + i) = g.1 i := fun i hi => by rw [← eg, c3N, if_pos hi]
      have h0 : z_mk (z_can P (c3N (fun i => pl (L * 3 + i)))) = 0 := by rw [eg]; exact z_mk_0.mpr hc
      refine hbody r L pl ac vr sl gd A hr (by omega) (fun i hi => ?_) (by rw [hsl]; exact z_mk_lt S) (by rw [hgd]; decide) (fun t ht h => ?_) (fun s hs h => ?_) hE hA (fun _ => ?_) (fun t ht h => ?_)
      · rw [ep i hi]; exact Nat.le_trans (hin.1 i hi) (hok.1 i)
      · rw [eg, hc t ht] at h; cases h
      · rw [hsl, hgd, z_tb_mk S hs] at h
        have h' : S s = true := by
          cases hb : S s
          · rw [hb] at h
            rcases (show s = 0 ∨ s = 1 ∨ s = 2 by omega) with rfl | rfl | rfl <;> exact absurd h (by decide)
          · rfl
        have := hS s hs h'
        have := hok.1 s
        rw [ep s hs]; omega
      · rw [if_pos h0, hnd]; exact K
      · have h1 := (z_fst_sp h).2.1
        simp only [z_cnd] at h1
        rw [eg, hc t ht] at h1
        exact absurd h1 (by simp)
    · rw [Bool.and_eq_true] at hE
      exact hex r L pl ac vr sl gd A hE.1 hE.2 (hfin (z_arr_mono hE.2))
  intro n
  induction n with
  | zero =>
    intro L g S hn hin hS r pl ac vr sl gd A hnd hsl hgd hr hA hfin K
    have hc : ∀ t, t < 3 → z_can P g.1 t = false := by
      intro t ht
      cases h : z_can P g.1 t
      · rfl
      · have := z_in_le hok hin ht h
        omega
    have hz : z_cost 0 = 1 := rfl
    refine leaf 0 L g S hn hin hS hc r pl ac vr sl gd A hnd hsl hgd (by omega) hA hfin ?_
    exact K (r + 1) pl ac vr sl gd (by omega) (fun _ _ => ⟨rfl, rfl, rfl⟩) (fun _ _ => ⟨rfl, rfl⟩) (by show A.2.1 + 1 ≤ r + 1; omega)
  | succ n ih =>
    intro L g S hn hin hS r pl ac vr sl gd A hnd hsl hgd hr hA hfin K
    have hz : z_cost (n + 1) = 1 + 3 * (1 + z_cost n) := rfl
    by_cases h0 : z_mk (z_can P g.1) = 0
    · have e : z_vis P fx fv sx sw (n + 1) g S A = z_arr fx fv sx sw g A := by
        show (if z_mk (z_can P g.1) = 0 then z_arr fx fv sx sw g A else _) = _
        rw [if_pos h0]
      rw [e] at hfin K
      refine leaf (n + 1) L g S hn hin hS (z_mk_0.mp h0) r pl ac vr sl gd A hnd hsl hgd (by omega) hA hfin ?_
      exact K (r + 1) pl ac vr sl gd (by omega) (fun _ _ => ⟨rfl, rfl, rfl⟩) (fun _ _ => ⟨rfl, rfl⟩) (by show A.2.1 + 1 ≤ r + 1; omega)
    · have e : z_vis P fx fv sx sw (n + 1) g S A = z_vt P (z_vis P fx fv sx sw n) g S A 3 := by
        show (if z_mk (z_can P g.1) = 0 then z_arr fx fv sx sw g A else _) = _
        rw [if_neg h0]
      rw [e] at hfin K
      generalize hV : z_vis P fx fv sx sw n = V at hfin K ih
      have hVm : ∀ g S A, A.1 = true → (V g S A).1 = true := by rw [← hV]; exact z_vis_mono n
      have inner : ∀ (m t : Nat), t + m = 3 → ∀ (r1 : Nat) (pl1 : Nat → Nat) (ac1 vr1 : Nat → Int32) (sl1 gd1 : Nat → Nat), z_nd pl1 ac1 vr1 L = g → sl1 L = z_mk S → gd1 L = z_mk (z_had P g S t) →
          (∀ j, j < L * 3 → pl1 j = pl j ∧ ac1 j = ac j ∧ vr1 j = vr j) → (∀ j, j < L → sl1 j = sl j ∧ gd1 j = gd j) → r1 + m * (1 + z_cost n) + 1 ≤ r + z_cost (n + 1) → (z_vt P V g S A t).2.1 ≤ r1 → G r1 (L + 1) pl1 ac1 vr1 sl1 gd1 (z_vt P V g S A t) := by
        intro m
        induction m with
        | zero =>
          intro t ht r1 pl1 ac1 vr1 sl1 gd1 hnd1 hsl1 hgd1 hlo1 hlo2 hr1 hA1
          obtain rfl : t = 3 := by omega
          cases hE : (lk && (z_vt P V g S A 3).1)
          · have eg : c3N (fun i => pl1 (L * 3 + i)) = g.1 := congrArg Prod.fst hnd1
            have ep : ∀ i, i < 3 → pl1 (L * 3 + i) = g.1 i := fun i hi => by rw [← eg, c3N, if_pos hi]
            refine hbody r1 L pl1 ac1 vr1 sl1 gd1 _ (by omega) (by omega) (fun i hi => ?_) (by rw [hsl1]; exact z_mk_lt S) (by rw [hgd1]; exact z_mk_lt _) (fun t ht h => ?_) (fun s hs h => ?_) hE hA1 (fun _ => ?_) (fun t ht h => ?_)
            · rw [ep i hi]; exact Nat.le_trans (hin.1 i hi) (hok.1 i)
            · rw [eg] at h
              have h1 := z_can_lt h
              have h2 := hok.1 t
              exact ⟨z_in_le hok hin ht h, by rw [ep t ht]; omega⟩
            · rw [hsl1, hgd1, z_tb_mk S hs, z_tb_mk _ hs, z_had] at h
              have h2 := hok.1 s
              have h3 : g.1 s < pS P s := by
                cases hb : S s
                · rw [hb] at h
                  cases hcc : z_can P g.1 s
                  · rw [hcc] at h; simp at h
                  · exact z_can_lt hcc
                · exact hS s hs hb
              rw [ep s hs]; omega
            · rw [if_neg (by rw [eg]; exact h0)]
              exact K (r1 + 1) pl1 ac1 vr1 sl1 gd1 (by omega) hlo1 hlo2 (by omega)
            · have h1 := (z_fst_sp h).2.1
              simp only [z_cnd] at h1
              rw [eg, hsl1, hgd1, z_tb_mk S ht, z_tb_mk _ ht, z_had, decide_eq_true ht] at h1
              cases hb : S t <;> cases hcc : z_can P g.1 t <;> rw [hb, hcc] at h1 <;> exact absurd h1 (by decide)
          · rw [Bool.and_eq_true] at hE
            exact hex _ _ _ _ _ _ _ _ hE.1 hE.2 (hfin hE.2)
        | succ m ihm =>
          intro t ht r1 pl1 ac1 vr1 sl1 gd1 hnd1 hsl1 hgd1 hlo1 hlo2 hr1 hA1
          have ht3 : t < 3 := by omega
          have hmul : (m + 1) * (1 + z_cost n) = m * (1 + z_cost n) + (1 + z_cost n) := Nat.succ_mul _ _
          cases hgo : (z_can P g.1 t && !S t)
          · -- t is passed over
            have e1 : z_vt P V g S A (t + 1) = z_vt P V g S A t := by rw [z_vt, if_neg (by rw [hgo]; decide)]
            have h := ihm (t + 1) (by omega) r1 pl1 ac1 vr1 sl1 gd1 hnd1 hsl1 ?_ hlo1 hlo2 (by omega) (by rw [e1]; exact hA1)
            · rw [e1] at h; exact h
            · rw [hgd1]
              refine z_mk_congr (fun s hs => ?_)
              simp only [z_had]
              by_cases hst : s = t
              · subst hst
                rw [decide_eq_false (by omega), decide_eq_true (by omega), Bool.false_and, Bool.false_and, Bool.true_and, hgo]
              · rw [show decide (s < t + 1) = decide (s < t) from decide_eq_decide.mpr (by omega)]
          · cases hE : (lk && (z_vt P V g S A t).1)
            · have hgo' := hgo
              rw [Bool.and_eq_true] at hgo'
              obtain ⟨hct, hSt⟩ := hgo'
              have hSt : S t = false := by cases hb : S t; rfl; rw [hb] at hSt; cases hSt
              have eg : c3N (fun i => pl1 (L * 3 + i)) = g.1 := congrArg Prod.fst hnd1
              have ep : ∀ i, i < 3 → pl1 (L * 3 + i) = g.1 i := fun i hi => by rw [← eg, c3N, if_pos hi]
              have hL11 := z_in_le hok hin ht3 hct
              have hpick : z_fst (z_cnd P pl1 sl1 gd1 L) = some t := by
                refine z_fst_some ht3 ?_ (fun s hs => ?_)
                · simp only [z_cnd]
                  rw [eg, hsl1, hgd1, z_tb_mk S ht3, z_tb_mk _ ht3, z_had, hct, hSt, decide_eq_false (by omega)]
                  rfl
                · have hs3 : s < 3 := by omega
                  simp only [z_cnd]
                  rw [eg, hsl1, hgd1, z_tb_mk S hs3, z_tb_mk _ hs3, z_had, decide_eq_true hs]
                  cases z_can P g.1 s <;> cases S s <;> rfl
              refine hbody r1 L pl1 ac1 vr1 sl1 gd1 _ (by omega) (by omega) (fun i hi => ?_) (by rw [hsl1]; exact z_mk_lt S) (by rw [hgd1]; exact z_mk_lt _) (fun t ht h => ?_) (fun s hs h => ?_) hE hA1 (fun h => ?_) (fun t' ht' h => ?_)
              · rw [ep i hi]; exact Nat.le_trans (hin.1 i hi) (hok.1 i)
              · rw [eg] at h
                have h1 := z_can_lt h
                have h2 := hok.1 t
                exact ⟨z_in_le hok hin ht h, by rw [ep t ht]; omega⟩
              · rw [hsl1, hgd1, z_tb_mk S hs, z_tb_mk _ hs, z_had] at h
                have h2 := hok.1 s
                have h3 : g.1 s < pS P s := by
                  cases hb : S s
                  · rw [hb] at h
                    cases hcc : z_can P g.1 s
                    · rw [hcc] at h; simp at h
                    · exact z_can_lt hcc
                  · exact hS s hs hb
                rw [ep s hs]; omega
              · rw [hpick] at h; cases h
              · rw [hpick] at h
                obtain rfl : t = t' := Option.some.inj h
                -- the child
                have e1 : z_vt P V g S A (t + 1) = V (z_stp P t g) (z_slp P g.1 t (fun s => S s || (decide (s < t) && z_can P g.1 s))) (z_vt P V g S A t) := by rw [z_vt, if_pos hgo]
                have hsl2 : z_tsl P pl1 sl1 gd1 L t (L + 1) = z_mk (z_slp P g.1 t (fun s => S s || (decide (s < t) && z_can P g.1 s))) := by
                  rw [z_tsl, va_up_self]
                  refine z_mk_congr (fun s hs => ?_)
                  simp only [z_slp]
                  rw [eg, hsl1, hgd1, z_tb_mk S hs, z_tb_mk _ hs, z_had]
                  cases S s <;> cases decide (s < t) <;> cases z_can P g.1 s <;> rfl
                refine ih (L + 1) (z_stp P t g) _ (by omega) (z_in_stp hin ht3 hct) (fun s hs h => ?_) (r1 + 1) _ _ _ _ _ _ (by rw [z_nd_turn hok _ _ _ _ _ ht3, hnd1]) hsl2 (by rw [va_up_ne _ _ (by omega), va_up_self]) (by omega) (by omega) (fun h => ?_) (fun r2 pl2 ac2 vr2 sl2 gd2 hr2 hl1 hl2 hA2 => ?_)
                · have hst : s ≠ t := by
                    intro q
                    subst q
                    rw [z_slp, hSt, decide_eq_false (by omega)] at h
                    simp at h
                  show va_up g.1 t (g.1 t + 1) s < pS P s
                  rw [va_up_ne _ _ hst]
                  simp only [z_slp] at h
                  cases hb : S s
                  · rw [hb] at h
                    cases hcc : z_can P g.1 s
                    · rw [hcc] at h; simp at h
                    · exact z_can_lt hcc
                  · exact hS s hs hb
                · refine hfin ?_
                  rw [← e1] at h
                  have := z_vt_mono hVm m (t + 1) h
                  rwa [show t + 1 + m = 3 by omega] at this
                · rw [← e1] at hA2 ⊢
                  refine ihm (t + 1) (by omega) r2 pl2 ac2 vr2 sl2 gd2 ?_ ?_ ?_ (fun j hj => ?_) (fun j hj => ?_) (by omega) hA2
                  · rw [← hnd1]
                    refine z_nd_congr (fun j hj => ?_)
                    have a1 := hl1 j (by omega)
                    have a2 := z_turn_lo (P := P) pl1 ac1 vr1 L t j hj
                    exact ⟨a1.1.trans a2.1, a1.2.1.trans a2.2.1, a1.2.2.trans a2.2.2⟩
                  · rw [(hl2 L (by omega)).1, z_tsl, va_up_ne _ _ (by omega)]; exact hsl1
                  · rw [(hl2 L (by omega)).2, va_up_self, hgd1]
                    refine z_mk_add ht3 ?_ ?_ (fun s hs hst => ?_)
                    · rw [z_had, decide_eq_false (by omega)]; rfl
                    · rw [z_had, decide_eq_true (by omega), hct, hSt]; rfl
                    · simp only [z_had]
                      rw [show decide (s < t + 1) = decide (s < t) from decide_eq_decide.mpr (by omega)]
                  · have a1 := hl1 j (by omega)
                    have a2 := z_turn_lo (P := P) pl1 ac1 vr1 L t j (by omega)
                    have a3 := hlo1 j hj
                    exact ⟨a1.1.trans (a2.1.trans a3.1), a1.2.1.trans (a2.2.1.trans a3.2.1), a1.2.2.trans (a2.2.2.trans a3.2.2)⟩
                  · have a1 := hl2 j (by omega)
                    have a3 := hlo2 j hj
                    rw [z_tsl, va_up_ne _ _ (by omega), va_up_ne _ _ (by omega), va_up_ne _ _ (by omega)] at a1
                    exact ⟨a1.1.trans a3.1, a1.2.trans a3.2⟩
            · rw [Bool.and_eq_true] at hE
              refine hex _ _ _ _ _ _ _ _ hE.1 hE.2 (hfin ?_)
              have := z_vt_mono hVm (m + 1) t hE.2
              rwa [show t + (m + 1) = 3 by omega] at this
      have h := inner 3 0 (by omega) r pl ac vr sl gd hnd hsl ?_ (fun _ _ => ⟨rfl, rfl, rfl⟩) (fun _ _ => ⟨rfl, rfl⟩) (by omega) hA
      · exact h
      · rw [hgd]
        exact (z_mk_0.mpr (fun t ht => by rw [z_had, decide_eq_false (by omega)]; rfl)).symm
end
section
section XF
variable {l : Launch} {D : va_G} {cB cI : ClassId} {ad : Nat → Nat} {P : Pg} {wy pl : Nat → Nat} {ac vr : Nat → Int32} {sl gd : Nat → Nat} {lk : Bool} {fx : Nat} {fv : Int32} {sx : Nat} {sw : Int32} {fo : Bool} {cn : Nat} {qa qb qc qd : Nat → Int32}
/-- the walk's level: one less than n -/
def lvI : Nat → Int32
  | 0 => -1
  | n + 1 => nI n
theorem lvI_dec : ∀ n : Nat, nI n + Int32.ofInt (-1) = lvI n
  | 0 => by decide
  | n + 1 => pk_m1 n
def z_iv (f : Nat → Int32) (n : Nat) (q : Nat → Int32) : Nat → Int32 := fun j => if j < n then f j else q j
def z_i0 (n : Nat) (q : Nat → Nat) : Nat → Nat := fun j => if j < n then 0 else q j
theorem z_iv_0 (f q : Nat → Int32) : z_iv f 0 q = q := by
  funext j
  rw [z_iv, if_neg (by omega)]
theorem z_i0_0 (q : Nat → Nat) : z_i0 0 q = q := by
  funext j
  rw [z_i0, if_neg (by omega)]
theorem z_iv_up (f : Nat → Int32) (n : Nat) (q : Nat → Int32) : va_up (z_iv f n q) n (f n) = z_iv f (n + 1) q := by
  funext j
  by_cases h : j = n
  · subst h
    rw [va_up_self, z_iv, if_pos (show j < j + 1 by omega)]
  · rw [va_up_ne _ _ h]
    by_cases h2 : j < n
    · rw [z_iv, if_pos h2, z_iv, if_pos (show j < n + 1 by omega)]
    · rw [z_iv, if_neg h2, z_iv, if_neg (show ¬ j < n + 1 by omega)]
theorem z_i0_up (n : Nat) (q : Nat → Nat) : va_up (z_i0 n q) n 0 = z_i0 (n + 1) q := by
  funext j
  by_cases h : j = n
  · subst h
    rw [va_up_self, z_i0, if_pos (show j < j + 1 by omega)]
  · rw [va_up_ne _ _ h]
    by_cases h2 : j < n
    · rw [z_i0, if_pos h2, z_i0, if_pos (show j < n + 1 by omega)]
    · rw [z_i0, if_neg h2, z_i0, if_neg (show ¬ j < n + 1 by omega)]
theorem z_msk {a b c : Nat} (ha : a < 8) (hb : b < 8) (hc : c < 8) : (nI a &&& (nI b ^^^ (-1))) &&& (nI c ^^^ (-1)) = nI (z_mk (fun t => z_tb a t && !z_tb b t && !z_tb c t)) := by
  have : ∀ a, a < 8 → ∀ b, b < 8 → ∀ c, c < 8 → (nI a &&& (nI b ^^^ (-1))) &&& (nI c ^^^ (-1)) = nI (z_mk (fun t => z_tb a t && !z_tb b t && !z_tb c t)) := by decide +kernel
  exact this a ha b hb c hc
theorem z_or2 {m t : Nat} (hm : m < 8) (ht : t < 3) (h : z_tb m t = false) : nI m ||| (nI 1 <<< (nI t &&& 31)) = nI (m + 2 ^ t) ∧ m + 2 ^ t < 8 := by
  have : ∀ m, m < 8 → ∀ t, t < 3 → z_tb m t = false → nI m ||| (nI 1 <<< (nI t &&& 31)) = nI (m + 2 ^ t) ∧ m + 2 ^ t < 8 := by decide +kernel
  exact this m hm t ht h
abbrev z_root (P : Pg) (fx : Nat) (fv : Int32) (sx : Nat) (sw : Int32) (qa qb qc qd : Nat → Int32) : Za := z_vis P fx fv sx sw 12 (z_0 P) (fun _ => false) (false, 0, qa, qb, qc, qd)
set_option maxHeartbeats 4000000 in
set_option maxRecDepth 100000 in
/-- walk -/
theorem xm_walk (hok : pOk P) (hfx : fx < 3) (hsx : sx < 3) : MV l D cB cI yX0_walk cX0_walk 5 3 76 [.ref (ad 0)] (xW ad cB cI P wy pl ac vr sl gd lk fx fv sx sw fo cn qa qb qc qd) (fun w_ => ∃ (pl' : Nat → Nat) (ac' vr' : Nat → Int32) (sl' gd' : Nat → Nat) (A : Za), w_ = xW ad cB cI P wy pl' ac' vr' sl' gd' lk fx fv sx sw A.1 A.2.1 A.2.2.1 A.2.2.2.1 A.2.2.2.2.1 A.2.2.2.2.2 ∧ (lk = false → A = z_root P fx fv sx sw qa qb qc qd) ∧ (lk = true → A.1 = (z_root P fx fv sx sw qa qb qc qd).1)) := by
  refine MV.of (by decide) (Nat.le_of_ble_eq_true rfl) ?_
  intro X eL eD hX hret
  subst eL; subst eD
  have hX : Fx X cX0_walk RX0 5 3 76 cB cI := hX
  show ww X (xW ad cB cI P wy pl ac vr sl gd lk fx fv sx sw fo cn qa qb qc qd) [(0, .ref (ad 0))] 0 []
  obtain ⟨G, hG⟩ : ∃ G : z_G, G = fun r L pl ac vr sl gd A => ww X (xW ad cB cI P wy pl ac vr sl gd lk fx fv sx sw A.1 A.2.1 A.2.2.1 A.2.2.2.1 A.2.2.2.2.1 A.2.2.2.2.2) [(0, .ref (ad 0)), (1, .int (lvI L)), (2, .int (nI r))] 72 [] := ⟨_, rfl⟩
  have body : z_Body P lk fx fv sx sw G := by
    rw [hG]
    intro r L pl ac vr sl gd A hr hL hp hsl hgd hcan hz hE hA K1 K2
    show ww X (xW ad cB cI P wy pl ac vr sl gd lk fx fv sx sw A.1 A.2.1 A.2.2.1 A.2.2.2.1 A.2.2.2.2.1 A.2.2.2.2.2) [(0, .ref (ad 0)), (1, .int (nI L)), (2, .int (nI r))] 72 []
    have hEN := z_mk_lt (z_can P (c3N (fun i => pl (L * 3 + i))))
    have J96 : ww X (xW ad cB cI P wy pl ac vr sl gd lk fx fv sx sw A.1 A.2.1 A.2.2.1 A.2.2.2.1 A.2.2.2.2.1 A.2.2.2.2.2) [(0, .ref (ad 0)), (1, .int (nI L)), (2, .int (nI r))] 96 [] := by
      refine ww_aload_n (pc := 96) hX dX0_walk_96 0 rfl ?_
      refine ww_iload_n (pc := 97) hX dX0_walk_97 1 rfl ?_
      refine ww_callI (pc := 98) (n := 1) (rest := []) hX (xm_enabled L hok hL hp) (lw_V q151 q153 qs5 q21 q154) (by decide +kernel) rfl ⟨by decide, by decide⟩ 0 0 rfl rfl rfl (Nat.le_of_ble_eq_true rfl) dX0_walk_98 (fun r_ w_ hq_ => ?_)
      obtain ⟨rfl, rfl⟩ := hq_
      refine ww_istore_n (pc := 101) (lv' := [(0, .ref (ad 0)), (1, .int (nI L)), (2, .int (nI r)), (3, .int (nI (z_mk (z_can P (c3N (fun i => pl (L * 3 + i)))))))]) hX dX0_walk_101 (by decide) [1, 2, 3, 0] rfl ?_
      have J111 : ∀ A2 : Za, A2 = (if z_mk (z_can P (c3N (fun i => pl (L * 3 + i)))) = 0 then z_arr fx fv sx sw (z_nd pl ac vr L) A else A) → ww X (xW ad cB cI P wy pl ac vr sl gd lk fx fv sx sw A2.1 A2.2.1 A2.2.2.1 A2.2.2.2.1 A2.2.2.2.2.1 A2.2.2.2.2.2) [(0, .ref (ad 0)), (1, .int (nI L)), (2, .int (nI r)), (3, .int (nI (z_mk (z_can P (c3N (fun i => pl (L * 3 + i)))))))] 111 [] := by
        intro A2 hA2
        rw [← hA2] at K1
        refine ww_iload_n (pc := 111) hX dX0_walk_111 3 rfl ?_
        refine ww_aload_n (pc := 112) hX dX0_walk_112 0 rfl ?_
        refine xg_sleeping (pc := 113) hX dX0_walk_113 ?_
        refine ww_iload_n (pc := 116) hX dX0_walk_116 1 rfl ?_
        refine xl_sleeping (pc := 117) hX (by omega) dX0_walk_117 ?_
        refine ww_iconst (pc := 118) (v := -1) hX dX0_walk_118 (by decide) ?_
        refine ww_ixor (pc := 119) hX dX0_walk_119 ?_
        refine ww_iand (pc := 120) hX dX0_walk_120 ?_
        refine ww_aload_n (pc := 121) hX dX0_walk_121 0 rfl ?_
        refine xg_hadTurn (pc := 122) hX dX0_walk_122 ?_
        refine ww_iload_n (pc := 125) hX dX0_walk_125 1 rfl ?_
        refine xl_hadTurn (pc := 126) hX (by omega) dX0_walk_126 ?_
        refine ww_iconst (pc := 127) (v := -1) hX dX0_walk_127 (by decide) ?_
        refine ww_ixor (pc := 128) hX dX0_walk_128 ?_
        refine ww_iand (pc := 129) hX dX0_walk_129 ?_
        rw [z_msk hEN hsl hgd]
        refine ww_callS (C := RX0) (pc := 130) (n := 1) (rest := []) hX (xm_nextThread _ (z_mk_lt _)) (lw_S q159 q160 q21 q161) (by decide +kernel) rfl ⟨by decide, by decide⟩ rfl (Nat.le_of_ble_eq_true rfl) dX0_walk_130 (fun r_ w_ hq_ => ?_)
        obtain ⟨rfl, rfl⟩ := hq_
        have eN : z_fst (z_tb (z_mk (fun t => z_tb (z_mk (z_can P (c3N (fun i => pl (L * 3 + i))))) t && !z_tb (sl L) t && !z_tb (gd L) t))) = z_fst (z_cnd P pl sl gd L) := z_fst_congr (fun t ht => by rw [z_tb_mk _ ht, z_tb_mk _ ht])
        rw [eN]
        cases hN : z_fst (z_cnd P pl sl gd L) with
        | none =>
          refine ww_istore (pc := 133) (lv' := [(0, .ref (ad 0)), (1, .int (nI L)), (2, .int (nI r)), (3, .int (nI (z_mk (z_can P (c3N (fun i => pl (L * 3 + i))))))), (4, .int (z_ntI none))]) hX dX0_walk_133 (by decide) [1, 2, 3, 4, 0] rfl ?_
          refine ww_iload (pc := 135) hX dX0_walk_135 4 rfl ?_
          refine ww_if_ge (pc := 137) (tgt := 146) hX dX0_walk_137 (by decide) (fun c1 => ?_) (fun c1 => ?_)
          · exact absurd c1 (by decide)
          · refine ww_iinc (pc := 140) (v := lvI L) (lv' := [(0, .ref (ad 0)), (1, .int (lvI L)), (2, .int (nI r)), (3, .int (nI (z_mk (z_can P (c3N (fun i => pl (L * 3 + i))))))), (4, .int (z_ntI none))]) hX dX0_walk_140 1 rfl (lvI_dec L) (by decide) [1, 0, 2, 3, 4] rfl ?_
            refine ww_goto (pc := 143) (tgt := 174) hX dX0_walk_143 (by decide) ?_
            refine ww_iincN (pc := 174) (lv' := [(0, .ref (ad 0)), (1, .int (lvI L)), (2, .int (nI (r + 1))), (3, .int (nI (z_mk (z_can P (c3N (fun i => pl (L * 3 + i))))))), (4, .int (z_ntI none))]) hX dX0_walk_174 2 rfl (by decide) [1, 2, 0, 3, 4] rfl ?_
            refine ww_goto (pc := 177) (tgt := 72) hX dX0_walk_177 (by decide) ?_
            refine ww_sub [0, 1, 2] rfl (lv := [(0, .ref (ad 0)), (1, .int (lvI L)), (2, .int (nI (r + 1)))]) ?_
            exact K1 hN
        | some t =>
          obtain ⟨ht, hct, -⟩ := z_fst_sp hN
          rw [Bool.and_eq_true, Bool.and_eq_true] at hct
          obtain ⟨⟨hc1, -⟩, hc3⟩ := hct
          obtain ⟨hL11, hpt⟩ := hcan t ht hc1
          have hA2 : A2 = A := by
            rw [hA2, if_neg]
            intro q
            rw [z_mk_0.mp q t ht] at hc1; cases hc1
          subst hA2
          have hgt : z_tb (gd L) t = false := by cases h : z_tb (gd L) t; rfl; rw [h] at hc3; cases hc3
          obtain ⟨eo, ho⟩ := z_or2 hgd ht hgt
          show ww X (xW ad cB cI P wy pl ac vr sl gd lk fx fv sx sw A2.1 A2.2.1 A2.2.2.1 A2.2.2.2.1 A2.2.2.2.2.1 A2.2.2.2.2.2) [(0, .ref (ad 0)), (1, .int (nI L)), (2, .int (nI r)), (3, .int (nI (z_mk (z_can P (c3N (fun i => pl (L * 3 + i)))))))] 133 [.int (nI t)]
          refine ww_istore (pc := 133) (lv' := [(0, .ref (ad 0)), (1, .int (nI L)), (2, .int (nI r)), (3, .int (nI (z_mk (z_can P (c3N (fun i => pl (L * 3 + i))))))), (4, .int (nI t))]) hX dX0_walk_133 (by decide) [1, 2, 3, 4, 0] rfl ?_
          refine ww_iload (pc := 135) hX dX0_walk_135 4 rfl ?_
          refine ww_if_ge (pc := 137) (tgt := 146) hX dX0_walk_137 (by decide) (fun c1 => ?_) (fun c1 => ?_)
          · refine ww_aload_n (pc := 146) hX dX0_walk_146 0 rfl ?_
            refine ww_iload_n (pc := 147) hX dX0_walk_147 1 rfl ?_
            refine ww_iload (pc := 148) hX dX0_walk_148 4 rfl ?_
            refine ww_callV (pc := 150) (n := 2) (rest := []) hX (xm_turn L t hok hL11 ht hp hpt hsl hgd hz) (lw_V q162 q164 qs7 q21 q165) (by decide +kernel) rfl ⟨by decide, by decide⟩ 0 0 rfl rfl rfl (Nat.le_of_ble_eq_true rfl) dX0_walk_150 (fun w_ hq_ => ?_)
            subst hq_
            refine ww_aload_n (pc := 153) hX dX0_walk_153 0 rfl ?_
            refine xg_hadTurn (pc := 154) hX dX0_walk_154 ?_
            refine ww_iload_n (pc := 157) hX dX0_walk_157 1 rfl ?_
            refine ww_aload_n (pc := 158) hX dX0_walk_158 0 rfl ?_
            refine xg_hadTurn (pc := 159) hX dX0_walk_159 ?_
            refine ww_iload_n (pc := 162) hX dX0_walk_162 1 rfl ?_
            refine xl_hadTurn (pc := 163) hX (by omega) dX0_walk_163 ?_
            rw [va_up_ne _ _ (show L ≠ L + 1 by omega)]
            refine ww_iconst (pc := 164) (v := nI 1) hX dX0_walk_164 (by decide) ?_
            refine ww_iload (pc := 165) hX dX0_walk_165 4 rfl ?_
            refine ww_ishl (pc := 167) hX dX0_walk_167 ?_
            refine ww_ior (pc := 168) hX dX0_walk_168 ?_
            rw [eo]
            refine ww_i2bN (pc := 169) hX (by omega) dX0_walk_169 ?_
            refine xs_hadTurn (pc := 170) hX (by omega) (by omega) dX0_walk_170 ?_
            refine ww_iincN (pc := 171) (lv' := [(0, .ref (ad 0)), (1, .int (nI (L + 1))), (2, .int (nI r)), (3, .int (nI (z_mk (z_can P (c3N (fun i => pl (L * 3 + i))))))), (4, .int (nI t))]) hX dX0_walk_171 1 rfl (by decide) [1, 0, 2, 3, 4] rfl ?_
            refine ww_iincN (pc := 174) (lv' := [(0, .ref (ad 0)), (1, .int (nI (L + 1))), (2, .int (nI (r + 1))), (3, .int (nI (z_mk (z_can P (c3N (fun i => pl (L * 3 + i))))))), (4, .int (nI t))]) hX dX0_walk_174 2 rfl (by decide) [1, 2, 0, 3, 4] rfl ?_
            refine ww_goto (pc := 177) (tgt := 72) hX dX0_walk_177 (by decide) ?_
            refine ww_sub [0, 1, 2] rfl (lv := [(0, .ref (ad 0)), (1, .int (nI (L + 1))), (2, .int (nI (r + 1)))]) ?_
            exact K2 t ht hN
          · exact absurd (nI_pos' (by omega)) c1
      refine ww_iload_n (pc := 102) hX dX0_walk_102 3 rfl ?_
      refine ww_if_neN (pc := 103) (tgt := 111) hX (by omega) dX0_walk_103 (by decide) (fun c1 => ?_) (fun c1 => ?_)
      · exact J111 A (by rw [if_neg c1])
      · refine ww_aload_n (pc := 106) hX dX0_walk_106 0 rfl ?_
        refine ww_iload_n (pc := 107) hX dX0_walk_107 1 rfl ?_
        refine ww_callV (pc := 108) (n := 1) (rest := []) hX (xm_arrive L hL hfx hsx (by omega)) (lw_V q155 q157 qs6 q21 q158) (by decide +kernel) rfl ⟨by decide, by decide⟩ 0 0 rfl rfl rfl (Nat.le_of_ble_eq_true rfl) dX0_walk_108 (fun w_ hq_ => ?_)
        subst hq_
        exact J111 (z_arr fx fv sx sw (z_nd pl ac vr L) A) (by rw [if_pos c1])
    refine ww_iload_n (pc := 72) hX dX0_walk_72 2 rfl ?_
    refine ww_ldc (pc := 73) (v := nI 2097152) hX q150 dX0_walk_73 ?_
    refine ww_icmp_geN (pc := 75) (tgt := 180) hX (by omega) (by omega) dX0_walk_75 (by decide) (fun c1 => ?_) (fun c1 => ?_)
    · exact absurd c1 (by omega)
    · refine ww_iload_n (pc := 78) hX dX0_walk_78 1 rfl ?_
      refine ww_if_ltN (pc := 79) hX (by omega) dX0_walk_79 180 (by decide) ?_
      refine ww_aload_n (pc := 82) hX dX0_walk_82 0 rfl ?_
      refine xg_looking (pc := 83) hX dX0_walk_83 ?_
      refine ww_if_eqB (pc := 86) (tgt := 96) hX dX0_walk_86 (by decide) (fun c3 => ?_) (fun c3 => ?_)
      · exact J96
      · refine ww_aload_n (pc := 89) hX dX0_walk_89 0 rfl ?_
        refine xg_found (pc := 90) hX dX0_walk_90 ?_
        refine ww_if_neB (pc := 93) (tgt := 180) hX dX0_walk_93 (by decide) (fun c4 => ?_) (fun c4 => ?_)
        · rw [c3, c4] at hE
          cases hE
        · exact J96
  have hex : ∀ r L pl ac vr sl gd (A : Za), lk = true → A.1 = true → (z_root P fx fv sx sw qa qb qc qd).1 = true → G r (L + 1) pl ac vr sl gd A := by
    rw [hG]
    intro r L pl ac vr sl gd A h1 h2 h3
    show ww X (xW ad cB cI P wy pl ac vr sl gd lk fx fv sx sw A.1 A.2.1 A.2.2.1 A.2.2.2.1 A.2.2.2.2.1 A.2.2.2.2.2) [(0, .ref (ad 0)), (1, .int (nI L)), (2, .int (nI r))] 72 []
    refine ww_iload_n (pc := 72) hX dX0_walk_72 2 rfl ?_
    refine ww_ldc (pc := 73) (v := nI 2097152) hX q150 dX0_walk_73 ?_
    refine ww_icmp_ge (pc := 75) (tgt := 180) hX dX0_walk_75 (by decide) (fun c1 => ?_) (fun c1 => ?_)
    · exact hret _ _ _ (⟨pl, ac, vr, sl, gd, A, rfl, (fun q => by rw [h1] at q; cases q), fun _ => h2.trans h3.symm⟩) dX0_walk_180
    · refine ww_iload_n (pc := 78) hX dX0_walk_78 1 rfl ?_
      refine ww_if_lt (pc := 79) (tgt := 180) hX dX0_walk_79 (by decide) (fun c2 => ?_) (fun c2 => ?_)
      · exact hret _ _ _ (⟨pl, ac, vr, sl, gd, A, rfl, (fun q => by rw [h1] at q; cases q), fun _ => h2.trans h3.symm⟩) dX0_walk_180
      · refine ww_aload_n (pc := 82) hX dX0_walk_82 0 rfl ?_
        refine xg_looking (pc := 83) hX dX0_walk_83 ?_
        refine ww_if_eqB (pc := 86) (tgt := 96) hX dX0_walk_86 (by decide) (fun c3 => ?_) (fun c3 => ?_)
        · rw [h1] at c3; cases c3
        · refine ww_aload_n (pc := 89) hX dX0_walk_89 0 rfl ?_
          refine xg_found (pc := 90) hX dX0_walk_90 ?_
          refine ww_if_neB (pc := 93) (tgt := 180) hX dX0_walk_93 (by decide) (fun c4 => ?_) (fun c4 => ?_)
          · exact hret _ _ _ (⟨pl, ac, vr, sl, gd, A, rfl, (fun q => by rw [h1] at q; cases q), fun _ => h2.trans h3.symm⟩) dX0_walk_180
          · rw [h2] at c4; cases c4
  have done_ : ∀ r pl ac vr sl gd, r < 2 ^ 21 → G r 0 pl ac vr sl gd (z_root P fx fv sx sw qa qb qc qd) := by
    rw [hG]
    intro r pl ac vr sl gd hr
    show ww X (xW ad cB cI P wy pl ac vr sl gd lk fx fv sx sw ((z_root P fx fv sx sw qa qb qc qd).1) ((z_root P fx fv sx sw qa qb qc qd).2.1) ((z_root P fx fv sx sw qa qb qc qd).2.2.1) ((z_root P fx fv sx sw qa qb qc qd).2.2.2.1) ((z_root P fx fv sx sw qa qb qc qd).2.2.2.2.1) ((z_root P fx fv sx sw qa qb qc qd).2.2.2.2.2)) [(0, .ref (ad 0)), (1, .int (lvI 0)), (2, .int (nI r))] 72 []
    refine ww_iload_n (pc := 72) hX dX0_walk_72 2 rfl ?_
    refine ww_ldc (pc := 73) (v := nI 2097152) hX q150 dX0_walk_73 ?_
    refine ww_icmp_geN (pc := 75) (tgt := 180) hX (by omega) (by omega) dX0_walk_75 (by decide) (fun c1 => ?_) (fun c1 => ?_)
    · exact absurd c1 (by omega)
    · refine ww_iload_n (pc := 78) hX dX0_walk_78 1 rfl ?_
      refine ww_if_lt (pc := 79) (tgt := 180) hX dX0_walk_79 (by decide) (fun c2 => ?_) (fun c2 => ?_)
      · exact hret _ _ _ (⟨pl, ac, vr, sl, gd, _, rfl, fun _ => rfl, fun _ => rfl⟩) dX0_walk_180
      · exact absurd (show lvI 0 < 0 by decide) c2
  have loop : ∀ n i : Nat, i + n = 3 → ww X (xW ad cB cI P wy (z_i0 i pl) (z_iv (pA P) i ac) (z_iv (pV P) i vr) sl gd lk fx fv sx sw false 0 qa qb qc qd) [(0, .ref (ad 0)), (1, .int (nI i))] 12 [] := by
    intro n
    induction n with
    | zero =>
      intro i hi
      obtain rfl : i = 3 := by omega
      refine ww_iload_n (pc := 12) hX dX0_walk_12 1 rfl ?_
      refine ww_iconst (pc := 13) (v := nI 3) hX dX0_walk_13 (by decide) ?_
      refine ww_icmp_geN (pc := 14) (tgt := 54) hX (by omega) (by omega) dX0_walk_14 (by decide) (fun c1 => ?_) (fun c1 => ?_)
      · refine ww_aload_n (pc := 54) hX dX0_walk_54 0 rfl ?_
        refine xg_sleeping (pc := 55) hX dX0_walk_55 ?_
        refine ww_iconst (pc := 58) (v := nI 0) hX dX0_walk_58 (by decide) ?_
        refine ww_iconst (pc := 59) (v := nI 0) hX dX0_walk_59 (by decide) ?_
        refine xs_sleeping (pc := 60) hX (by omega) (by omega) dX0_walk_60 ?_
        refine ww_aload_n (pc := 61) hX dX0_walk_61 0 rfl ?_
        refine xg_hadTurn (pc := 62) hX dX0_walk_62 ?_
        refine ww_iconst (pc := 65) (v := nI 0) hX dX0_walk_65 (by decide) ?_
        refine ww_iconst (pc := 66) (v := nI 0) hX dX0_walk_66 (by decide) ?_
        refine xs_hadTurn (pc := 67) hX (by omega) (by omega) dX0_walk_67 ?_
        refine ww_iconst (pc := 68) (v := nI 0) hX dX0_walk_68 (by decide) ?_
        refine ww_istore_n (pc := 69) (lv' := [(0, .ref (ad 0)), (1, .int (nI 0))]) hX dX0_walk_69 (by decide) [1, 0] rfl ?_
        refine ww_iconst (pc := 70) (v := nI 0) hX dX0_walk_70 (by decide) ?_
        refine ww_istore_n (pc := 71) (lv' := [(0, .ref (ad 0)), (1, .int (nI 0)), (2, .int (nI 0))]) hX dX0_walk_71 (by decide) [1, 2, 0] rfl ?_
        have hnd : z_nd (z_i0 3 pl) (z_iv (pA P) 3 ac) (z_iv (pV P) 3 vr) 0 = z_0 P := by
          unfold z_nd z_0
          refine Prod.ext ?_ (Prod.ext ?_ ?_)
          · funext i; by_cases hi : i < 3
            · simp only [c3N, if_pos hi, z_i0]; rw [if_pos (by omega)]
            · simp only [c3N, if_neg hi]
          · funext i; by_cases hi : i < 3
            · simp only [c3V, if_pos hi, z_iv]; rw [if_pos (by omega), show 0 * 3 + i = i by omega]
            · simp only [c3V, if_neg hi]
          · funext i; by_cases hi : i < 3
            · simp only [c3V, if_pos hi, z_iv]; rw [if_pos (by omega), show 0 * 3 + i = i by omega]
            · simp only [c3V, if_neg hi]
        have hd := z_dfs hok hex body 12 0 (z_0 P) (fun _ => false) (by omega) ⟨fun t _ => Nat.zero_le _, rfl⟩ (fun _ _ h => by cases h) 0 (z_i0 3 pl) (z_iv (pA P) 3 ac) (z_iv (pV P) 3 vr) (va_up sl 0 0) (va_up gd 0 0) (false, 0, qa, qb, qc, qd) hnd (by rw [va_up_self]; exact (z_mk_0.mpr (fun _ _ => rfl)).symm) (va_up_self _ _ _) (by decide +kernel) (Nat.le_refl _) (fun h => h) (fun r2 pl2 ac2 vr2 sl2 gd2 hr2 _ _ _ => done_ r2 pl2 ac2 vr2 sl2 gd2 (Nat.lt_of_le_of_lt hr2 (by decide +kernel)))
        rw [hG] at hd
        exact hd
      · exact absurd c1 (by omega)
    | succ n ih =>
      intro i hi
      have ih_ := ih (i + 1) (by omega)
      refine ww_iload_n (pc := 12) hX dX0_walk_12 1 rfl ?_
      refine ww_iconst (pc := 13) (v := nI 3) hX dX0_walk_13 (by decide) ?_
      refine ww_icmp_geN (pc := 14) (tgt := 54) hX (by omega) (by omega) dX0_walk_14 (by decide) (fun c1 => ?_) (fun c1 => ?_)
      · exact absurd c1 (by omega)
      · refine ww_aload_n (pc := 17) hX dX0_walk_17 0 rfl ?_
        refine xg_place (pc := 18) hX dX0_walk_18 ?_
        refine ww_iload_n (pc := 21) hX dX0_walk_21 1 rfl ?_
        refine ww_iconst (pc := 22) (v := nI 0) hX dX0_walk_22 (by decide) ?_
        refine xs_place (pc := 23) hX (by omega) (by omega) dX0_walk_23 ?_
        refine ww_aload_n (pc := 24) hX dX0_walk_24 0 rfl ?_
        refine xg_accs (pc := 25) hX dX0_walk_25 ?_
        refine ww_iload_n (pc := 28) hX dX0_walk_28 1 rfl ?_
        refine ww_aload_n (pc := 29) hX dX0_walk_29 0 rfl ?_
        refine xg_startA (pc := 30) hX dX0_walk_30 ?_
        refine ww_iload_n (pc := 33) hX dX0_walk_33 1 rfl ?_
        refine xl_startA (pc := 34) hX (by omega) dX0_walk_34 ?_
        refine xs_accs (pc := 35) hX (by omega) dX0_walk_35 ?_
        refine ww_aload_n (pc := 36) hX dX0_walk_36 0 rfl ?_
        refine xg_vars (pc := 37) hX dX0_walk_37 ?_
        refine ww_iload_n (pc := 40) hX dX0_walk_40 1 rfl ?_
        refine ww_aload_n (pc := 41) hX dX0_walk_41 0 rfl ?_
        refine xg_startV (pc := 42) hX dX0_walk_42 ?_
        refine ww_iload_n (pc := 45) hX dX0_walk_45 1 rfl ?_
        refine xl_startV (pc := 46) hX (by omega) dX0_walk_46 ?_
        refine xs_vars (pc := 47) hX (by omega) dX0_walk_47 ?_
        refine ww_iincN (pc := 48) (lv' := [(0, .ref (ad 0)), (1, .int (nI (i + 1)))]) hX dX0_walk_48 1 rfl (by decide) [1, 0] rfl ?_
        refine ww_goto (pc := 51) (tgt := 12) hX dX0_walk_51 (by decide) ?_
        rw [z_i0_up, z_iv_up, z_iv_up]
        exact ih_
  refine ww_aload_n (pc := 0) hX dX0_walk_0 0 rfl ?_
  refine ww_iconst (pc := 1) (v := nI 0) hX dX0_walk_1 (by decide) ?_
  refine xp_classCount (pc := 2) hX dX0_walk_2 ?_
  refine ww_aload_n (pc := 5) hX dX0_walk_5 0 rfl ?_
  refine ww_iconst (pc := 6) (v := bI false) hX dX0_walk_6 (by first | decide | rfl) ?_
  refine xp_found (pc := 7) hX dX0_walk_7 ?_
  refine ww_iconst (pc := 10) (v := nI 0) hX dX0_walk_10 (by decide) ?_
  refine ww_istore_n (pc := 11) (lv' := [(0, .ref (ad 0)), (1, .int (nI 0))]) hX dX0_walk_11 (by decide) [1, 0] rfl ?_
  have l0 := loop 3 0 (by omega)
  rw [z_i0_0, z_iv_0, z_iv_0] at l0
  exact l0
end XF
end
section
/-! the public calls: what they answer and what they leave, for both classes -/
def xOK (ad : Nat → Nat) (cB cI : ClassId) (P : Pg) (w : va_W) : Prop :=
  ∃ (wy pl : Nat → Nat) (ac vr : Nat → Int32) (sl gd : Nat → Nat) (lk : Bool) (fx : Nat) (fv : Int32) (sx : Nat) (sw : Int32) (fo : Bool) (cn : Nat) (qa qb qc qd : Nat → Int32), fx < 3 ∧ sx < 3 ∧ w = xW ad cB cI P wy pl ac vr sl gd lk fx fv sx sw fo cn qa qb qc qd
def mOK (ad : Nat → Nat) (cI : ClassId) (P : Pg) (w : va_W) : Prop :=
  ∃ (tn : Nat) (tu st : Nat → Nat) (va : Nat → Int32) (pt : Nat → Nat) (ho : Nat → Int32), w = mW ad cI P tn tu st va pt ho
def z_sok (t k n : Int32) : Prop := ∃ tt kk : Nat, tt < 3 ∧ kk ≤ 5 ∧ t = nI tt ∧ k = nI kk ∧ (kk ≤ 2 → ∃ i, i < 3 ∧ n = nI i) ∧ (4 ≤ kk → ∃ i, i < 2 ∧ n = nI i)
def z_Padd (P : Pg) (tt kk : Nat) (n : Int32) : Pg := (va_up (pS P) tt (pS P tt + 1), va_up (pK P) (tt * 4 + pS P tt) kk, va_up (pN P) (tt * 4 + pS P tt) n, pV P, pA P)
noncomputable def z_stepR (P : Pg) (t k n : Int32) : Int32 × Pg := @ite _ (z_sok t k n) (Classical.propDecidable _) (if pS P t.toNatClampNeg < 4 then (nI (pS P t.toNatClampNeg), z_Padd P t.toNatClampNeg k.toNatClampNeg n) else (-2, P)) (-1, P)
theorem z_stepR_bad {P : Pg} {t k n : Int32} (h : ¬ z_sok t k n) : z_stepR P t k n = (-1, P) := by rw [z_stepR, if_neg h]
theorem z_stepR_ok {P : Pg} {tt kk : Nat} {n : Int32} (ht : tt < 3) (hk : kk ≤ 5) (h1 : kk ≤ 2 → ∃ i, i < 3 ∧ n = nI i) (h2 : 4 ≤ kk → ∃ i, i < 2 ∧ n = nI i) : z_stepR P (nI tt) (nI kk) n = if pS P tt < 4 then (nI (pS P tt), z_Padd P tt kk n) else (-2, P) := by
  rw [z_stepR, if_pos ⟨tt, kk, ht, hk, rfl, rfl, h1, h2⟩, nI_clamp (by omega), nI_clamp (by omega)]
def z_dropR (P : Pg) (t : Int32) : Int32 × Pg := if z_ix t = true ∧ pS P t.toNatClampNeg ≠ 0 then (nI (pS P t.toNatClampNeg - 1), (va_up (pS P) t.toNatClampNeg (pS P t.toNatClampNeg - 1), pK P, pN P, pV P, pA P)) else (-1, P)
def z_begR (P : Pg) (what x v : Int32) : Bool × Pg := if z_ix x = true ∧ (what = nI 0 ∨ what = nI 1) then (true, if what = nI 0 then (pS P, pK P, pN P, va_up (pV P) x.toNatClampNeg v, pA P) else (pS P, pK P, pN P, pV P, va_up (pA P) x.toNatClampNeg v)) else (false, P)
def z_lenR (P : Pg) (t : Int32) : Int32 := if z_ix t = true then nI (pS P t.toNatClampNeg) else -1
theorem z_sh {kk : Nat} (h : kk ≤ 5) : decide (¬ nI kk < 0 ∧ ¬ nI 2 < nI kk) = decide (kk ≤ 2) := by
  have : ∀ kk, kk < 6 → decide (¬ nI kk < 0 ∧ ¬ nI 2 < nI kk) = decide (kk ≤ 2) := by decide
  exact this kk (by omega)
theorem z_lo {kk : Nat} (h : kk ≤ 5) : decide (nI kk = nI 4 ∨ nI kk = nI 5) = decide (4 ≤ kk) := by
  have : ∀ kk, kk < 6 → decide (nI kk = nI 4 ∨ nI kk = nI 5) = decide (4 ≤ kk) := by decide
  exact this kk (by omega)
/-- least or most -/
def z_w01 (x what : Int32) : Bool := z_ix x && (decide (what = nI 0) || decide (what = nI 1))
end
section
section XG
variable {l : Launch} {D : va_G} {cB cI : ClassId} {ad : Nat → Nat} {P : Pg} {wy pl : Nat → Nat} {ac vr : Nat → Int32} {sl gd : Nat → Nat} {lk : Bool} {fx : Nat} {fv : Int32} {sx : Nat} {sw : Int32} {fo : Bool} {cn : Nat} {qa qb qc qd : Nat → Int32}
set_option maxHeartbeats 4000000 in
set_option maxRecDepth 100000 in
/-- step -/
theorem xm_step (t k n : Int32) (hok : pOk P) (hfx : fx < 3) (hsx : sx < 3) : MI l D cB cI yX0_step cX0_step 6 (some .int) 1 20 [.ref (ad 0), .int t, .int k, .int n] (xW ad cB cI P wy pl ac vr sl gd lk fx fv sx sw fo cn qa qb qc qd) (fun r_ w_ => r_ = (z_stepR P t k n).1 ∧ xOK ad cB cI (z_stepR P t k n).2 w_) := by
  refine MI.of (by decide) (Nat.le_of_ble_eq_true rfl) ?_
  intro X eL eD hX hret
  subst eL; subst eD
  have hX : Fx X cX0_step RX0 6 1 20 cB cI := hX
  show ww X (xW ad cB cI P wy pl ac vr sl gd lk fx fv sx sw fo cn qa qb qc qd) [(0, .ref (ad 0)), (1, .int t), (2, .int k), (3, .int n)] 0 []
  have J14 : ∀ v_ : Int32, v_ = (bI (decide (¬ k < 0 ∧ ¬ nI 2 < k))) → ww X (xW ad cB cI P wy pl ac vr sl gd lk fx fv sx sw fo cn qa qb qc qd) [(0, .ref (ad 0)), (1, .int t), (2, .int k), (3, .int n)] 14 [.int v_] := by
    rintro _ rfl
    refine ww_istore (pc := 14) (lv' := [(0, .ref (ad 0)), (1, .int t), (2, .int k), (3, .int n), (4, .int (bI (decide (¬ k < 0 ∧ ¬ nI 2 < k))))]) hX dX0_step_14 (by decide) [1, 2, 3, 4, 0] rfl ?_
    have J31 : ∀ v_ : Int32, v_ = (bI (decide (k = nI 4 ∨ k = nI 5))) → ww X (xW ad cB cI P wy pl ac vr sl gd lk fx fv sx sw fo cn qa qb qc qd) [(0, .ref (ad 0)), (1, .int t), (2, .int k), (3, .int n), (4, .int (bI (decide (¬ k < 0 ∧ ¬ nI 2 < k))))] 31 [.int v_] := by
      rintro _ rfl
      refine ww_istore (pc := 31) (lv' := [(0, .ref (ad 0)), (1, .int t), (2, .int k), (3, .int n), (4, .int (bI (decide (¬ k < 0 ∧ ¬ nI 2 < k)))), (5, .int (bI (decide (k = nI 4 ∨ k = nI 5))))]) hX dX0_step_31 (by decide) [1, 2, 3, 4, 5, 0] rfl ?_
      refine ww_iload_n (pc := 33) hX dX0_step_33 1 rfl ?_
      refine ww_callS (C := RX0) (pc := 34) (n := 1) (rest := []) hX (xm_isIndex t) (lw_S q104 q105 q21 q106) (by decide +kernel) rfl ⟨by decide, by decide⟩ rfl (Nat.le_of_ble_eq_true rfl) dX0_step_34 (fun r_ w_ hq_ => ?_)
      obtain ⟨rfl, rfl⟩ := hq_
      refine ww_if_eqB (pc := 37) (tgt := 75) hX dX0_step_37 (by decide) (fun c1 => ?_) (fun c1 => ?_)
      · have hbad : ¬ z_sok t k n := by
          rintro ⟨tt, kk, h1, -, rfl, -⟩
          rw [z_ix_nI h1] at c1; cases c1
        refine ww_iconst (pc := 75) (v := -1) hX dX0_step_75 (by decide) ?_
        exact hret _ _ _ _ (rfl) (by rw [z_stepR_bad hbad]; exact ⟨rfl, ⟨_, _, _, _, _, _, _, _, _, _, _, _, _, _, _, _, _, hfx, hsx, rfl⟩⟩) dX0_step_76
      · obtain ⟨tt, ht, rfl⟩ := z_ix_of c1
        refine ww_iload_n (pc := 40) hX dX0_step_40 2 rfl ?_
        refine ww_if_lt (pc := 41) (tgt := 75) hX dX0_step_41 (by decide) (fun c2 => ?_) (fun c2 => ?_)
        · have hbad : ¬ z_sok (nI tt) k n := by
            rintro ⟨_, kk, -, h1, -, rfl, -⟩
            exact absurd c2 (nI_pos (by omega))
          refine ww_iconst (pc := 75) (v := -1) hX dX0_step_75 (by decide) ?_
          exact hret _ _ _ _ (rfl) (by rw [z_stepR_bad hbad]; exact ⟨rfl, ⟨_, _, _, _, _, _, _, _, _, _, _, _, _, _, _, _, _, hfx, hsx, rfl⟩⟩) dX0_step_76
        · refine ww_iload_n (pc := 44) hX dX0_step_44 2 rfl ?_
          refine ww_iconst (pc := 45) (v := nI 5) hX dX0_step_45 (by decide) ?_
          refine ww_icmp_gt (pc := 46) (tgt := 75) hX dX0_step_46 (by decide) (fun c3 => ?_) (fun c3 => ?_)
          · have hbad : ¬ z_sok (nI tt) k n := by
              rintro ⟨_, kk, -, h1, -, rfl, -⟩
              exact absurd ((nI_ltI (by decide) (by omega)).mp c3) (by omega)
            refine ww_iconst (pc := 75) (v := -1) hX dX0_step_75 (by decide) ?_
            exact hret _ _ _ _ (rfl) (by rw [z_stepR_bad hbad]; exact ⟨rfl, ⟨_, _, _, _, _, _, _, _, _, _, _, _, _, _, _, _, _, hfx, hsx, rfl⟩⟩) dX0_step_76
          · obtain ⟨kk, hk, rfl⟩ := nI_of2 (M := nI 5) (n := 5) (by decide) c2 (Int32.not_lt.mp c3)
            rw [z_sh hk, z_lo hk]
            have J77 : (kk ≤ 2 → ∃ i, i < 3 ∧ n = nI i) → (4 ≤ kk → ∃ i, i < 2 ∧ n = nI i) → ww X (xW ad cB cI P wy pl ac vr sl gd lk fx fv sx sw fo cn qa qb qc qd) [(0, .ref (ad 0)), (1, .int (nI tt)), (2, .int (nI kk)), (3, .int n), (4, .int (bI (decide (kk ≤ 2)))), (5, .int (bI (decide (4 ≤ kk))))] 77 [] := by
              intro h1 h2
              have hs := hok.1 tt
              rw [z_stepR_ok ht hk h1 h2] at hret
              refine ww_aload_n (pc := 77) hX dX0_step_77 0 rfl ?_
              refine xg_sizes (pc := 78) hX dX0_step_78 ?_
              refine ww_iload_n (pc := 81) hX dX0_step_81 1 rfl ?_
              refine xl_sizes (pc := 82) hX (by omega) dX0_step_82 ?_
              refine ww_iconst (pc := 83) (v := nI 4) hX dX0_step_83 (by decide) ?_
              refine ww_icmp_ltN (pc := 84) (tgt := 90) hX (by omega) (by omega) dX0_step_84 (by decide) (fun d1 => ?_) (fun d1 => ?_)
              · refine ww_aload_n (pc := 90) hX dX0_step_90 0 rfl ?_
                refine xg_kinds (pc := 91) hX dX0_step_91 ?_
                refine ww_iload_n (pc := 94) hX dX0_step_94 1 rfl ?_
                refine ww_iconst (pc := 95) (v := nI 4) hX dX0_step_95 (by decide) ?_
                refine ww_imulN (pc := 96) hX dX0_step_96 ?_
                refine ww_aload_n (pc := 97) hX dX0_step_97 0 rfl ?_
                refine xg_sizes (pc := 98) hX dX0_step_98 ?_
                refine ww_iload_n (pc := 101) hX dX0_step_101 1 rfl ?_
                refine xl_sizes (pc := 102) hX (by omega) dX0_step_102 ?_
                refine ww_iaddN (pc := 103) hX dX0_step_103 ?_
                refine ww_iload_n (pc := 104) hX dX0_step_104 2 rfl ?_
                refine ww_i2bN (pc := 105) hX (by omega) dX0_step_105 ?_
                refine xs_kinds (pc := 106) hX (by omega) (by omega) dX0_step_106 ?_
                refine ww_aload_n (pc := 107) hX dX0_step_107 0 rfl ?_
                refine xg_numbers (pc := 108) hX dX0_step_108 ?_
                refine ww_iload_n (pc := 111) hX dX0_step_111 1 rfl ?_
                refine ww_iconst (pc := 112) (v := nI 4) hX dX0_step_112 (by decide) ?_
                refine ww_imulN (pc := 113) hX dX0_step_113 ?_
                refine ww_aload_n (pc := 114) hX dX0_step_114 0 rfl ?_
                refine xg_sizes (pc := 115) hX dX0_step_115 ?_
                refine ww_iload_n (pc := 118) hX dX0_step_118 1 rfl ?_
                refine xl_sizes (pc := 119) hX (by omega) dX0_step_119 ?_
                show ww X (xW ad cB cI (pS P, va_up (pK P) ((tt * 4) + ((pS P) tt)) kk, pN P, pV P, pA P) wy pl ac vr sl gd lk fx fv sx sw fo cn qa qb qc qd) [(0, .ref (ad 0)), (1, .int (nI tt)), (2, .int (nI kk)), (3, .int n), (4, .int (bI (decide (kk ≤ 2)))), (5, .int (bI (decide (4 ≤ kk))))] 120 [.int (nI ((pS P) tt)), .int (nI (tt * 4)), .ref (ad 3)]
                refine ww_iaddN (pc := 120) hX dX0_step_120 ?_
                refine ww_iload_n (pc := 121) hX dX0_step_121 3 rfl ?_
                refine xs_numbers (pc := 122) hX (by omega) dX0_step_122 ?_
                refine ww_aload_n (pc := 123) hX dX0_step_123 0 rfl ?_
                refine xg_sizes (pc := 124) hX dX0_step_124 ?_
                refine ww_iload_n (pc := 127) hX dX0_step_127 1 rfl ?_
                refine ww_dup2 (pc := 128) hX dX0_step_128 rfl rfl ?_
                refine xl_sizes (pc := 129) hX (by omega) dX0_step_129 ?_
                show ww X (xW ad cB cI (pS P, va_up (pK P) ((tt * 4) + ((pS P) tt)) kk, va_up (pN P) ((tt * 4) + ((pS P) tt)) n, pV P, pA P) wy pl ac vr sl gd lk fx fv sx sw fo cn qa qb qc qd) [(0, .ref (ad 0)), (1, .int (nI tt)), (2, .int (nI kk)), (3, .int n), (4, .int (bI (decide (kk ≤ 2)))), (5, .int (bI (decide (4 ≤ kk))))] 130 [.int (nI ((pS P) tt)), .int (nI tt), .ref (ad 1)]
                refine ww_iconst (pc := 130) (v := nI 1) hX dX0_step_130 (by decide) ?_
                refine ww_iaddN (pc := 131) hX dX0_step_131 ?_
                refine ww_i2bN (pc := 132) hX (by omega) dX0_step_132 ?_
                refine xs_sizes (pc := 133) hX (by omega) (by omega) dX0_step_133 ?_
                rw [if_pos d1] at hret
                refine ww_aload_n (pc := 134) hX dX0_step_134 0 rfl ?_
                refine xg_sizes (pc := 135) hX dX0_step_135 ?_
                refine ww_iload_n (pc := 138) hX dX0_step_138 1 rfl ?_
                refine xl_sizes (pc := 139) hX (by omega) dX0_step_139 ?_
                show ww X (xW ad cB cI (va_up (pS P) tt (((pS P) tt) + 1), va_up (pK P) ((tt * 4) + ((pS P) tt)) kk, va_up (pN P) ((tt * 4) + ((pS P) tt)) n, pV P, pA P) wy pl ac vr sl gd lk fx fv sx sw fo cn qa qb qc qd) [(0, .ref (ad 0)), (1, .int (nI tt)), (2, .int (nI kk)), (3, .int n), (4, .int (bI (decide (kk ≤ 2)))), (5, .int (bI (decide (4 ≤ kk))))] 140 [.int (nI ((va_up (pS P) tt (((pS P) tt) + 1)) tt))]
                rw [va_up_self]
                refine ww_iconst (pc := 140) (v := nI 1) hX dX0_step_140 (by decide) ?_
                refine ww_isubN (pc := 141) hX (by omega) dX0_step_141 ?_
                exact hret _ _ _ _ (rfl) (⟨rfl, ⟨_, _, _, _, _, _, _, _, _, _, _, _, _, _, _, _, _, hfx, hsx, rfl⟩⟩) dX0_step_142
              · rw [if_neg (by omega)] at hret
                refine ww_bipush (pc := 87) (v := -2) hX dX0_step_87 (by decide) ?_
                exact hret _ _ _ _ (rfl) (⟨rfl, ⟨_, _, _, _, _, _, _, _, _, _, _, _, _, _, _, _, _, hfx, hsx, rfl⟩⟩) dX0_step_89
            have J61 : (kk ≤ 2 → ∃ i, i < 3 ∧ n = nI i) → ww X (xW ad cB cI P wy pl ac vr sl gd lk fx fv sx sw fo cn qa qb qc qd) [(0, .ref (ad 0)), (1, .int (nI tt)), (2, .int (nI kk)), (3, .int n), (4, .int (bI (decide (kk ≤ 2)))), (5, .int (bI (decide (4 ≤ kk))))] 61 [] := by
              intro h1
              refine ww_iload (pc := 61) hX dX0_step_61 5 rfl ?_
              refine ww_if_eqB (pc := 63) (tgt := 77) hX dX0_step_63 (by decide) (fun d1 => ?_) (fun d1 => ?_)
              · exact J77 h1 (fun q => absurd q (of_decide_eq_false d1))
              · have d1 := of_decide_eq_true d1
                refine ww_iload_n (pc := 66) hX dX0_step_66 3 rfl ?_
                refine ww_if_lt (pc := 67) (tgt := 75) hX dX0_step_67 (by decide) (fun d2 => ?_) (fun d2 => ?_)
                · have hbad : ¬ z_sok (nI tt) (nI kk) n := by
                    rintro ⟨_, kk', -, h3, -, h4, -, h5⟩
                    obtain rfl := (nI_eq (by omega) (by omega)).mp h4
                    obtain ⟨i, hi, rfl⟩ := h5 d1
                    exact absurd d2 (nI_pos (by omega))
                  refine ww_iconst (pc := 75) (v := -1) hX dX0_step_75 (by decide) ?_
                  exact hret _ _ _ _ (rfl) (by rw [z_stepR_bad hbad]; exact ⟨rfl, ⟨_, _, _, _, _, _, _, _, _, _, _, _, _, _, _, _, _, hfx, hsx, rfl⟩⟩) dX0_step_76
                · refine ww_iload_n (pc := 70) hX dX0_step_70 3 rfl ?_
                  refine ww_iconst (pc := 71) (v := nI 1) hX dX0_step_71 (by decide) ?_
                  refine ww_icmp_le (pc := 72) (tgt := 77) hX dX0_step_72 (by decide) (fun d3 => ?_) (fun d3 => ?_)
                  · obtain ⟨i, hi, hn⟩ := nI_of2 (M := nI 1) (n := 1) (by decide) d2 d3
                    exact J77 h1 (fun _ => ⟨i, by omega, hn⟩)
                  · have hbad : ¬ z_sok (nI tt) (nI kk) n := by
                      rintro ⟨_, kk', -, h3, -, h4, -, h5⟩
                      obtain rfl := (nI_eq (by omega) (by omega)).mp h4
                      obtain ⟨i, hi, rfl⟩ := h5 d1
                      exact d3 ((nI_leI (by omega) (by decide)).mpr (by omega))
                    refine ww_iconst (pc := 75) (v := -1) hX dX0_step_75 (by decide) ?_
                    exact hret _ _ _ _ (rfl) (by rw [z_stepR_bad hbad]; exact ⟨rfl, ⟨_, _, _, _, _, _, _, _, _, _, _, _, _, _, _, _, _, hfx, hsx, rfl⟩⟩) dX0_step_76
            refine ww_iload (pc := 49) hX dX0_step_49 4 rfl ?_
            refine ww_if_eqB (pc := 51) (tgt := 61) hX dX0_step_51 (by decide) (fun c4 => ?_) (fun c4 => ?_)
            · exact J61 (fun q => absurd q (of_decide_eq_false c4))
            · have c4 := of_decide_eq_true c4
              refine ww_iload_n (pc := 54) hX dX0_step_54 3 rfl ?_
              refine ww_callS (C := RX0) (pc := 55) (n := 1) (rest := []) hX (xm_isIndex n) (lw_S q104 q105 q21 q106) (by decide +kernel) rfl ⟨by decide, by decide⟩ rfl (Nat.le_of_ble_eq_true rfl) dX0_step_55 (fun r_ w_ hq_ => ?_)
              obtain ⟨rfl, rfl⟩ := hq_
              refine ww_if_eqB (pc := 58) (tgt := 75) hX dX0_step_58 (by decide) (fun c5 => ?_) (fun c5 => ?_)
              · have hbad : ¬ z_sok (nI tt) (nI kk) n := by
                  rintro ⟨_, kk', -, h3, -, h4, h5, -⟩
                  obtain rfl := (nI_eq (by omega) (by omega)).mp h4
                  obtain ⟨i, hi, rfl⟩ := h5 c4
                  rw [z_ix_nI hi] at c5; cases c5
                refine ww_iconst (pc := 75) (v := -1) hX dX0_step_75 (by decide) ?_
                exact hret _ _ _ _ (rfl) (by rw [z_stepR_bad hbad]; exact ⟨rfl, ⟨_, _, _, _, _, _, _, _, _, _, _, _, _, _, _, _, _, hfx, hsx, rfl⟩⟩) dX0_step_76
              · exact J61 (fun _ => z_ix_of c5)
    refine ww_iload_n (pc := 16) hX dX0_step_16 2 rfl ?_
    refine ww_iconst (pc := 17) (v := nI 4) hX dX0_step_17 (by decide) ?_
    refine ww_icmp_eq (pc := 18) (tgt := 26) hX dX0_step_18 (by decide) (fun c1 => ?_) (fun c1 => ?_)
    · refine ww_iconst (pc := 26) (v := bI true) hX dX0_step_26 (by first | decide | rfl) ?_
      refine ww_goto (pc := 27) (tgt := 31) hX dX0_step_27 (by decide) ?_
      exact J31 _ (congrArg bI (decide_eq_true (Or.inl c1)).symm)
    · refine ww_iload_n (pc := 21) hX dX0_step_21 2 rfl ?_
      refine ww_iconst (pc := 22) (v := nI 5) hX dX0_step_22 (by decide) ?_
      refine ww_icmp_ne (pc := 23) (tgt := 30) hX dX0_step_23 (by decide) (fun c2 => ?_) (fun c2 => ?_)
      · refine ww_iconst (pc := 30) (v := bI false) hX dX0_step_30 (by first | decide | rfl) ?_
        exact J31 _ (congrArg bI (decide_eq_false (fun q => q.elim c1 c2)).symm)
      · refine ww_iconst (pc := 26) (v := bI true) hX dX0_step_26 (by first | decide | rfl) ?_
        refine ww_goto (pc := 27) (tgt := 31) hX dX0_step_27 (by decide) ?_
        exact J31 _ (congrArg bI (decide_eq_true (Or.inr c2)).symm)
  refine ww_iload_n (pc := 0) hX dX0_step_0 2 rfl ?_
  refine ww_if_lt (pc := 1) (tgt := 13) hX dX0_step_1 (by decide) (fun c1 => ?_) (fun c1 => ?_)
  · refine ww_iconst (pc := 13) (v := bI false) hX dX0_step_13 (by first | decide | rfl) ?_
    exact J14 _ (congrArg bI (decide_eq_false (fun q => q.1 c1)).symm)
  · refine ww_iload_n (pc := 4) hX dX0_step_4 2 rfl ?_
    refine ww_iconst (pc := 5) (v := nI 2) hX dX0_step_5 (by decide) ?_
    refine ww_icmp_gt (pc := 6) (tgt := 13) hX dX0_step_6 (by decide) (fun c2 => ?_) (fun c2 => ?_)
    · refine ww_iconst (pc := 13) (v := bI false) hX dX0_step_13 (by first | decide | rfl) ?_
      exact J14 _ (congrArg bI (decide_eq_false (fun q => q.2 c2)).symm)
    · refine ww_iconst (pc := 9) (v := bI true) hX dX0_step_9 (by first | decide | rfl) ?_
      refine ww_goto (pc := 10) (tgt := 14) hX dX0_step_10 (by decide) ?_
      exact J14 _ (congrArg bI (decide_eq_true ⟨c1, c2⟩).symm)
set_option maxHeartbeats 4000000 in
set_option maxRecDepth 100000 in
/-- drop -/
theorem xm_drop (t : Int32) (hok : pOk P) (hfx : fx < 3) (hsx : sx < 3) : MI l D cB cI yX0_drop cX0_drop 2 (some .int) 1 20 [.ref (ad 0), .int t] (xW ad cB cI P wy pl ac vr sl gd lk fx fv sx sw fo cn qa qb qc qd) (fun r_ w_ => r_ = (z_dropR P t).1 ∧ xOK ad cB cI (z_dropR P t).2 w_) := by
  refine MI.of (by decide) (Nat.le_of_ble_eq_true rfl) ?_
  intro X eL eD hX hret
  subst eL; subst eD
  have hX : Fx X cX0_drop RX0 2 1 20 cB cI := hX
  show ww X (xW ad cB cI P wy pl ac vr sl gd lk fx fv sx sw fo cn qa qb qc qd) [(0, .ref (ad 0)), (1, .int t)] 0 []
  refine ww_iload_n (pc := 0) hX dX0_drop_0 1 rfl ?_
  refine ww_callS (C := RX0) (pc := 1) (n := 1) (rest := []) hX (xm_isIndex t) (lw_S q104 q105 q21 q106) (by decide +kernel) rfl ⟨by decide, by decide⟩ rfl (Nat.le_of_ble_eq_true rfl) dX0_drop_1 (fun r_ w_ hq_ => ?_)
  obtain ⟨rfl, rfl⟩ := hq_
  refine ww_if_eqB (pc := 4) (tgt := 16) hX dX0_drop_4 (by decide) (fun c1 => ?_) (fun c1 => ?_)
  · refine ww_iconst (pc := 16) (v := -1) hX dX0_drop_16 (by decide) ?_
    exact hret _ _ _ _ (rfl) (by rw [z_dropR, if_neg (fun q => by rw [c1] at q; cases q.1)]; exact ⟨rfl, ⟨_, _, _, _, _, _, _, _, _, _, _, _, _, _, _, _, _, hfx, hsx, rfl⟩⟩) dX0_drop_17
  · obtain ⟨tt, ht, rfl⟩ := z_ix_of c1
    have hs := hok.1 tt
    have ec : (nI tt).toNatClampNeg = tt := nI_clamp (by omega)
    refine ww_aload_n (pc := 7) hX dX0_drop_7 0 rfl ?_
    refine xg_sizes (pc := 8) hX dX0_drop_8 ?_
    refine ww_iload_n (pc := 11) hX dX0_drop_11 1 rfl ?_
    refine xl_sizes (pc := 12) hX (by omega) dX0_drop_12 ?_
    refine ww_if_neN (pc := 13) (tgt := 18) hX (by omega) dX0_drop_13 (by decide) (fun c2 => ?_) (fun c2 => ?_)
    · refine ww_aload_n (pc := 18) hX dX0_drop_18 0 rfl ?_
      refine xg_sizes (pc := 19) hX dX0_drop_19 ?_
      refine ww_iload_n (pc := 22) hX dX0_drop_22 1 rfl ?_
      refine ww_dup2 (pc := 23) hX dX0_drop_23 rfl rfl ?_
      refine xl_sizes (pc := 24) hX (by omega) dX0_drop_24 ?_
      refine ww_iconst (pc := 25) (v := nI 1) hX dX0_drop_25 (by decide) ?_
      refine ww_isubN (pc := 26) hX (by omega) dX0_drop_26 ?_
      refine ww_i2bN (pc := 27) hX (by omega) dX0_drop_27 ?_
      refine xs_sizes (pc := 28) hX (by omega) (by omega) dX0_drop_28 ?_
      refine ww_aload_n (pc := 29) hX dX0_drop_29 0 rfl ?_
      refine xg_sizes (pc := 30) hX dX0_drop_30 ?_
      refine ww_iload_n (pc := 33) hX dX0_drop_33 1 rfl ?_
      refine xl_sizes (pc := 34) hX (by omega) dX0_drop_34 ?_
      show ww X (xW ad cB cI (va_up (pS P) tt (((pS P) tt) - 1), pK P, pN P, pV P, pA P) wy pl ac vr sl gd lk fx fv sx sw fo cn qa qb qc qd) [(0, .ref (ad 0)), (1, .int (nI tt))] 35 [.int (nI ((va_up (pS P) tt (((pS P) tt) - 1)) tt))]
      rw [va_up_self]
      exact hret _ _ _ _ (rfl) (by rw [z_dropR, ec, if_pos ⟨c1, c2⟩]; exact ⟨rfl, ⟨_, _, _, _, _, _, _, _, _, _, _, _, _, _, _, _, _, hfx, hsx, rfl⟩⟩) dX0_drop_35
    · refine ww_iconst (pc := 16) (v := -1) hX dX0_drop_16 (by decide) ?_
      exact hret _ _ _ _ (rfl) (by rw [z_dropR, ec, if_neg (fun q => q.2 c2)]; exact ⟨rfl, ⟨_, _, _, _, _, _, _, _, _, _, _, _, _, _, _, _, _, hfx, hsx, rfl⟩⟩) dX0_drop_17
set_option maxHeartbeats 4000000 in
set_option maxRecDepth 100000 in
/-- begin -/
theorem xm_begin (what x v : Int32) (hok : pOk P) (hfx : fx < 3) (hsx : sx < 3) : MI l D cB cI yX0_begin cX0_begin 4 (some .boolean) 1 20 [.ref (ad 0), .int what, .int x, .int v] (xW ad cB cI P wy pl ac vr sl gd lk fx fv sx sw fo cn qa qb qc qd) (fun r_ w_ => r_ = bI (z_begR P what x v).1 ∧ xOK ad cB cI (z_begR P what x v).2 w_) := by
  refine MI.of (by decide) (Nat.le_of_ble_eq_true rfl) ?_
  intro X eL eD hX hret
  subst eL; subst eD
  have hX : Fx X cX0_begin RX0 4 1 20 cB cI := hX
  show ww X (xW ad cB cI P wy pl ac vr sl gd lk fx fv sx sw fo cn qa qb qc qd) [(0, .ref (ad 0)), (1, .int what), (2, .int x), (3, .int v)] 0 []
  refine ww_iload_n (pc := 0) hX dX0_begin_0 2 rfl ?_
  refine ww_callS (C := RX0) (pc := 1) (n := 1) (rest := []) hX (xm_isIndex x) (lw_S q104 q105 q21 q106) (by decide +kernel) rfl ⟨by decide, by decide⟩ rfl (Nat.le_of_ble_eq_true rfl) dX0_begin_1 (fun r_ w_ hq_ => ?_)
  obtain ⟨rfl, rfl⟩ := hq_
  refine ww_if_eqB (pc := 4) (tgt := 16) hX dX0_begin_4 (by decide) (fun c1 => ?_) (fun c1 => ?_)
  · refine ww_iconst (pc := 16) (v := bI false) hX dX0_begin_16 (by first | decide | rfl) ?_
    exact hret _ _ _ _ (nb_b _) (by rw [z_begR, if_neg (fun q => by rw [c1] at q; cases q.1)]; exact ⟨rfl, ⟨_, _, _, _, _, _, _, _, _, _, _, _, _, _, _, _, _, hfx, hsx, rfl⟩⟩) dX0_begin_17
  · obtain ⟨xx, hx, rfl⟩ := z_ix_of c1
    have ec : (nI xx).toNatClampNeg = xx := nI_clamp (by omega)
    refine ww_iload_n (pc := 7) hX dX0_begin_7 1 rfl ?_
    refine ww_if_lt (pc := 8) (tgt := 16) hX dX0_begin_8 (by decide) (fun c2 => ?_) (fun c2 => ?_)
    · refine ww_iconst (pc := 16) (v := bI false) hX dX0_begin_16 (by first | decide | rfl) ?_
      exact hret _ _ _ _ (nb_b _) (by rw [z_begR, if_neg (fun q => by rcases q.2 with h | h <;> rw [h] at c2 <;> exact absurd c2 (by decide))]; exact ⟨rfl, ⟨_, _, _, _, _, _, _, _, _, _, _, _, _, _, _, _, _, hfx, hsx, rfl⟩⟩) dX0_begin_17
    · refine ww_iload_n (pc := 11) hX dX0_begin_11 1 rfl ?_
      refine ww_iconst (pc := 12) (v := nI 1) hX dX0_begin_12 (by decide) ?_
      refine ww_icmp_le (pc := 13) (tgt := 18) hX dX0_begin_13 (by decide) (fun c3 => ?_) (fun c3 => ?_)
      · obtain ⟨kk, hk, rfl⟩ := nI_of2 (M := nI 1) (n := 1) (by decide) c2 c3
        refine ww_iload_n (pc := 18) hX dX0_begin_18 1 rfl ?_
        refine ww_if_neN (pc := 19) (tgt := 32) hX (by omega) dX0_begin_19 (by decide) (fun c4 => ?_) (fun c4 => ?_)
        · obtain rfl : kk = 1 := by omega
          refine ww_aload_n (pc := 32) hX dX0_begin_32 0 rfl ?_
          refine xg_startA (pc := 33) hX dX0_begin_33 ?_
          refine ww_iload_n (pc := 36) hX dX0_begin_36 2 rfl ?_
          refine ww_iload_n (pc := 37) hX dX0_begin_37 3 rfl ?_
          refine xs_startA (pc := 38) hX (by omega) dX0_begin_38 ?_
          refine ww_iconst (pc := 39) (v := bI true) hX dX0_begin_39 (by first | decide | rfl) ?_
          exact hret _ _ _ _ (nb_b _) (by rw [z_begR, ec, if_pos ⟨c1, Or.inr rfl⟩, if_neg (by decide)]; exact ⟨rfl, ⟨_, _, _, _, _, _, _, _, _, _, _, _, _, _, _, _, _, hfx, hsx, rfl⟩⟩) dX0_begin_40
        · subst c4
          refine ww_aload_n (pc := 22) hX dX0_begin_22 0 rfl ?_
          refine xg_startV (pc := 23) hX dX0_begin_23 ?_
          refine ww_iload_n (pc := 26) hX dX0_begin_26 2 rfl ?_
          refine ww_iload_n (pc := 27) hX dX0_begin_27 3 rfl ?_
          refine xs_startV (pc := 28) hX (by omega) dX0_begin_28 ?_
          refine ww_goto (pc := 29) (tgt := 39) hX dX0_begin_29 (by decide) ?_
          refine ww_iconst (pc := 39) (v := bI true) hX dX0_begin_39 (by first | decide | rfl) ?_
          exact hret _ _ _ _ (nb_b _) (by rw [z_begR, ec, if_pos ⟨c1, Or.inl rfl⟩, if_pos rfl]; exact ⟨rfl, ⟨_, _, _, _, _, _, _, _, _, _, _, _, _, _, _, _, _, hfx, hsx, rfl⟩⟩) dX0_begin_40
      · refine ww_iconst (pc := 16) (v := bI false) hX dX0_begin_16 (by first | decide | rfl) ?_
        exact hret _ _ _ _ (nb_b _) (by rw [z_begR, if_neg (fun q => by rcases q.2 with h | h <;> rw [h] at c3 <;> exact absurd c3 (by decide))]; exact ⟨rfl, ⟨_, _, _, _, _, _, _, _, _, _, _, _, _, _, _, _, _, hfx, hsx, rfl⟩⟩) dX0_begin_17
set_option maxHeartbeats 4000000 in
set_option maxRecDepth 100000 in
/-- length -/
theorem xm_length (t : Int32) (hok : pOk P) (hfx : fx < 3) (hsx : sx < 3) : MI l D cB cI yX0_length cX0_length 2 (some .int) 1 20 [.ref (ad 0), .int t] (xW ad cB cI P wy pl ac vr sl gd lk fx fv sx sw fo cn qa qb qc qd) (fun r_ w_ => r_ = z_lenR P t ∧ xOK ad cB cI P w_) := by
  refine MI.of (by decide) (Nat.le_of_ble_eq_true rfl) ?_
  intro X eL eD hX hret
  subst eL; subst eD
  have hX : Fx X cX0_length RX0 2 1 20 cB cI := hX
  show ww X (xW ad cB cI P wy pl ac vr sl gd lk fx fv sx sw fo cn qa qb qc qd) [(0, .ref (ad 0)), (1, .int t)] 0 []
  refine ww_iload_n (pc := 0) hX dX0_length_0 1 rfl ?_
  refine ww_callS (C := RX0) (pc := 1) (n := 1) (rest := []) hX (xm_isIndex t) (lw_S q104 q105 q21 q106) (by decide +kernel) rfl ⟨by decide, by decide⟩ rfl (Nat.le_of_ble_eq_true rfl) dX0_length_1 (fun r_ w_ hq_ => ?_)
  obtain ⟨rfl, rfl⟩ := hq_
  refine ww_if_eqB (pc := 4) (tgt := 16) hX dX0_length_4 (by decide) (fun c1 => ?_) (fun c1 => ?_)
  · refine ww_iconst (pc := 16) (v := -1) hX dX0_length_16 (by decide) ?_
    exact hret _ _ _ _ (rfl) (⟨by rw [z_lenR, if_neg (by rw [c1]; decide)], ⟨_, _, _, _, _, _, _, _, _, _, _, _, _, _, _, _, _, hfx, hsx, rfl⟩⟩) dX0_length_17
  · obtain ⟨tt, ht, rfl⟩ := z_ix_of c1
    have ec : (nI tt).toNatClampNeg = tt := nI_clamp (by omega)
    refine ww_aload_n (pc := 7) hX dX0_length_7 0 rfl ?_
    refine xg_sizes (pc := 8) hX dX0_length_8 ?_
    refine ww_iload_n (pc := 11) hX dX0_length_11 1 rfl ?_
    refine xl_sizes (pc := 12) hX (by omega) dX0_length_12 ?_
    refine ww_goto (pc := 13) (tgt := 17) hX dX0_length_13 (by decide) ?_
    exact hret _ _ _ _ (rfl) (⟨by rw [z_lenR, ec, if_pos c1], ⟨_, _, _, _, _, _, _, _, _, _, _, _, _, _, _, _, _, hfx, hsx, rfl⟩⟩) dX0_length_17
end XG
end
section
section XH
variable {l : Launch} {D : va_G} {cB cI : ClassId} {ad : Nat → Nat} {P : Pg} {wy pl : Nat → Nat} {ac vr : Nat → Int32} {sl gd : Nat → Nat} {lk : Bool} {fx : Nat} {fv : Int32} {sx : Nat} {sw : Int32} {fo : Bool} {cn : Nat} {qa qb qc qd : Nat → Int32}
set_option maxHeartbeats 4000000 in
set_option maxRecDepth 100000 in
/-- walkAll -/
theorem xm_walkAll (hok : pOk P) (hfx : fx < 3) (hsx : sx < 3) : MV l D cB cI yX0_walkAll cX0_walkAll 1 4 100 [.ref (ad 0)] (xW ad cB cI P wy pl ac vr sl gd lk fx fv sx sw fo cn qa qb qc qd) (fun w_ => ∃ (pl' : Nat → Nat) (ac' vr' : Nat → Int32) (sl' gd' : Nat → Nat), w_ = xW ad cB cI P wy pl' ac' vr' sl' gd' false fx fv sx sw ((z_root P fx fv sx sw qa qb qc qd).1) ((z_root P fx fv sx sw qa qb qc qd).2.1) ((z_root P fx fv sx sw qa qb qc qd).2.2.1) ((z_root P fx fv sx sw qa qb qc qd).2.2.2.1) ((z_root P fx fv sx sw qa qb qc qd).2.2.2.2.1) ((z_root P fx fv sx sw qa qb qc qd).2.2.2.2.2)) := by
  refine MV.of (by decide) (Nat.le_of_ble_eq_true rfl) ?_
  intro X eL eD hX hret
  subst eL; subst eD
  have hX : Fx X cX0_walkAll RX0 1 4 100 cB cI := hX
  show ww X (xW ad cB cI P wy pl ac vr sl gd lk fx fv sx sw fo cn qa qb qc qd) [(0, .ref (ad 0))] 0 []
  refine ww_aload_n (pc := 0) hX dX0_walkAll_0 0 rfl ?_
  refine ww_iconst (pc := 1) (v := bI false) hX dX0_walkAll_1 (by first | decide | rfl) ?_
  refine xp_looking (pc := 2) hX dX0_walkAll_2 ?_
  refine ww_aload_n (pc := 5) hX dX0_walkAll_5 0 rfl ?_
  refine ww_callV (pc := 6) (n := 0) (rest := []) hX (xm_walk hok hfx hsx) (lw_V q146 q148 qs4 q21 q149) (by decide +kernel) rfl ⟨by decide, by decide⟩ 0 0 rfl rfl rfl (Nat.le_of_ble_eq_true rfl) dX0_walkAll_6 (fun w_ hq_ => ?_)
  obtain ⟨pl1, ac1, vr1, sl1, gd1, A, rfl, hA, -⟩ := hq_
  obtain rfl := hA rfl
  exact hret _ _ _ (⟨_, _, _, _, _, rfl⟩) dX0_walkAll_9
set_option maxHeartbeats 4000000 in
set_option maxRecDepth 100000 in
/-- classes -/
theorem xm_classes (hok : pOk P) (hfx : fx < 3) (hsx : sx < 3) : MI l D cB cI yX0_classes cX0_classes 1 (some .int) 5 120 [.ref (ad 0)] (xW ad cB cI P wy pl ac vr sl gd lk fx fv sx sw fo cn qa qb qc qd) (fun r_ w_ => r_ = nI (z_root P fx fv sx sw qa qb qc qd).2.1 ∧ xOK ad cB cI P w_) := by
  refine MI.of (by decide) (Nat.le_of_ble_eq_true rfl) ?_
  intro X eL eD hX hret
  subst eL; subst eD
  have hX : Fx X cX0_classes RX0 1 5 120 cB cI := hX
  show ww X (xW ad cB cI P wy pl ac vr sl gd lk fx fv sx sw fo cn qa qb qc qd) [(0, .ref (ad 0))] 0 []
  refine ww_aload_n (pc := 0) hX dX0_classes_0 0 rfl ?_
  refine ww_callV (pc := 1) (n := 0) (rest := []) hX (xm_walkAll hok hfx hsx) (lw_V q142 q144 qs3 q21 q145) (by decide +kernel) rfl ⟨by decide, by decide⟩ 0 0 rfl rfl rfl (Nat.le_of_ble_eq_true rfl) dX0_classes_1 (fun w_ hq_ => ?_)
  obtain ⟨pl1, ac1, vr1, sl1, gd1, rfl⟩ := hq_
  refine ww_aload_n (pc := 4) hX dX0_classes_4 0 rfl ?_
  refine xg_classCount (pc := 5) hX dX0_classes_5 ?_
  exact hret _ _ _ _ (rfl) (⟨rfl, ⟨_, _, _, _, _, _, _, _, _, _, _, _, _, _, _, _, _, hfx, hsx, rfl⟩⟩) dX0_classes_8
set_option maxHeartbeats 4000000 in
set_option maxRecDepth 100000 in
/-- canEndBoth -/
theorem xm_canEndBoth (x v y u : Int32) (hok : pOk P) (hfx : fx < 3) (hsx : sx < 3) : MI l D cB cI yX0_canEndBoth cX0_canEndBoth 5 (some .boolean) 4 100 [.ref (ad 0), .int x, .int v, .int y, .int u] (xW ad cB cI P wy pl ac vr sl gd lk fx fv sx sw fo cn qa qb qc qd) (fun r_ w_ => r_ = bI (z_ix x && z_ix y && (z_root P x.toNatClampNeg v y.toNatClampNeg u qa qb qc qd).1) ∧ xOK ad cB cI P w_) := by
  refine MI.of (by decide) (Nat.le_of_ble_eq_true rfl) ?_
  intro X eL eD hX hret
  subst eL; subst eD
  have hX : Fx X cX0_canEndBoth RX0 5 4 100 cB cI := hX
  show ww X (xW ad cB cI P wy pl ac vr sl gd lk fx fv sx sw fo cn qa qb qc qd) [(0, .ref (ad 0)), (1, .int x), (2, .int v), (3, .int y), (4, .int u)] 0 []
  refine ww_iload_n (pc := 0) hX dX0_canEndBoth_0 1 rfl ?_
  refine ww_callS (C := RX0) (pc := 1) (n := 1) (rest := []) hX (xm_isIndex x) (lw_S q104 q105 q21 q106) (by decide +kernel) rfl ⟨by decide, by decide⟩ rfl (Nat.le_of_ble_eq_true rfl) dX0_canEndBoth_1 (fun r_ w_ hq_ => ?_)
  obtain ⟨rfl, rfl⟩ := hq_
  refine ww_if_eqB (pc := 4) (tgt := 14) hX dX0_canEndBoth_4 (by decide) (fun c1 => ?_) (fun c1 => ?_)
  · refine ww_iconst (pc := 14) (v := bI false) hX dX0_canEndBoth_14 (by first | decide | rfl) ?_
    exact hret _ _ _ _ (nb_b _) (⟨by rw [c1]; rfl, ⟨_, _, _, _, _, _, _, _, _, _, _, _, _, _, _, _, _, hfx, hsx, rfl⟩⟩) dX0_canEndBoth_15
  · refine ww_iload_n (pc := 7) hX dX0_canEndBoth_7 3 rfl ?_
    refine ww_callS (C := RX0) (pc := 8) (n := 1) (rest := []) hX (xm_isIndex y) (lw_S q104 q105 q21 q106) (by decide +kernel) rfl ⟨by decide, by decide⟩ rfl (Nat.le_of_ble_eq_true rfl) dX0_canEndBoth_8 (fun r_ w_ hq_ => ?_)
    obtain ⟨rfl, rfl⟩ := hq_
    refine ww_if_neB (pc := 11) (tgt := 16) hX dX0_canEndBoth_11 (by decide) (fun c2 => ?_) (fun c2 => ?_)
    · obtain ⟨xx, hx, rfl⟩ := z_ix_of c1
      obtain ⟨yy, hy, rfl⟩ := z_ix_of c2
      have ex : (nI xx).toNatClampNeg = xx := nI_clamp (by omega)
      have ey : (nI yy).toNatClampNeg = yy := nI_clamp (by omega)
      refine ww_aload_n (pc := 16) hX dX0_canEndBoth_16 0 rfl ?_
      refine ww_iconst (pc := 17) (v := bI true) hX dX0_canEndBoth_17 (by first | decide | rfl) ?_
      refine xp_looking (pc := 18) hX dX0_canEndBoth_18 ?_
      refine ww_aload_n (pc := 21) hX dX0_canEndBoth_21 0 rfl ?_
      refine ww_iload_n (pc := 22) hX dX0_canEndBoth_22 1 rfl ?_
      refine xp_firstX (pc := 23) hX dX0_canEndBoth_23 ?_
      refine ww_aload_n (pc := 26) hX dX0_canEndBoth_26 0 rfl ?_
      refine ww_iload_n (pc := 27) hX dX0_canEndBoth_27 2 rfl ?_
      refine xp_firstV (pc := 28) hX dX0_canEndBoth_28 ?_
      refine ww_aload_n (pc := 31) hX dX0_canEndBoth_31 0 rfl ?_
      refine ww_iload_n (pc := 32) hX dX0_canEndBoth_32 3 rfl ?_
      refine xp_secondX (pc := 33) hX dX0_canEndBoth_33 ?_
      refine ww_aload_n (pc := 36) hX dX0_canEndBoth_36 0 rfl ?_
      refine ww_iload (pc := 37) hX dX0_canEndBoth_37 4 rfl ?_
      refine xp_secondV (pc := 39) hX dX0_canEndBoth_39 ?_
      refine ww_aload_n (pc := 42) hX dX0_canEndBoth_42 0 rfl ?_
      refine ww_callV (pc := 43) (n := 0) (rest := []) hX (xm_walk hok hx hy) (lw_V q146 q148 qs4 q21 q149) (by decide +kernel) rfl ⟨by decide, by decide⟩ 0 0 rfl rfl rfl (Nat.le_of_ble_eq_true rfl) dX0_canEndBoth_43 (fun w_ hq_ => ?_)
      obtain ⟨pl1, ac1, vr1, sl1, gd1, A, rfl, -, hA⟩ := hq_
      refine ww_aload_n (pc := 46) hX dX0_canEndBoth_46 0 rfl ?_
      refine xg_found (pc := 47) hX dX0_canEndBoth_47 ?_
      exact hret _ _ _ _ (nb_b _) (⟨by rw [c1, c2, ex, ey, hA rfl]; rfl, ⟨_, _, _, _, _, _, _, _, _, _, _, _, _, _, _, _, _, hx, hy, rfl⟩⟩) dX0_canEndBoth_50
    · refine ww_iconst (pc := 14) (v := bI false) hX dX0_canEndBoth_14 (by first | decide | rfl) ?_
      exact hret _ _ _ _ (nb_b _) (⟨by rw [c2, Bool.and_false]; rfl, ⟨_, _, _, _, _, _, _, _, _, _, _, _, _, _, _, _, _, hfx, hsx, rfl⟩⟩) dX0_canEndBoth_15
set_option maxHeartbeats 4000000 in
set_option maxRecDepth 100000 in
/-- canEnd -/
theorem xm_canEnd (x v : Int32) (hok : pOk P) (hfx : fx < 3) (hsx : sx < 3) : MI l D cB cI yX0_canEnd cX0_canEnd 3 (some .boolean) 5 124 [.ref (ad 0), .int x, .int v] (xW ad cB cI P wy pl ac vr sl gd lk fx fv sx sw fo cn qa qb qc qd) (fun r_ w_ => r_ = bI (z_ix x && z_ix x && (z_root P x.toNatClampNeg v x.toNatClampNeg v qa qb qc qd).1) ∧ xOK ad cB cI P w_) := by
  refine MI.of (by decide) (Nat.le_of_ble_eq_true rfl) ?_
  intro X eL eD hX hret
  subst eL; subst eD
  have hX : Fx X cX0_canEnd RX0 3 5 124 cB cI := hX
  show ww X (xW ad cB cI P wy pl ac vr sl gd lk fx fv sx sw fo cn qa qb qc qd) [(0, .ref (ad 0)), (1, .int x), (2, .int v)] 0 []
  refine ww_aload_n (pc := 0) hX dX0_canEnd_0 0 rfl ?_
  refine ww_iload_n (pc := 1) hX dX0_canEnd_1 1 rfl ?_
  refine ww_iload_n (pc := 2) hX dX0_canEnd_2 2 rfl ?_
  refine ww_iload_n (pc := 3) hX dX0_canEnd_3 1 rfl ?_
  refine ww_iload_n (pc := 4) hX dX0_canEnd_4 2 rfl ?_
  refine ww_callI (pc := 5) (n := 4) (rest := []) hX (xm_canEndBoth x v x v hok hfx hsx) (lw_V q182 q183 q184 q21 q185) (by decide +kernel) rfl ⟨by decide, by decide⟩ 0 0 rfl rfl rfl (Nat.le_of_ble_eq_true rfl) dX0_canEnd_5 (fun r_ w_ hq_ => ?_)
  obtain ⟨rfl, hw⟩ := hq_
  exact hret _ _ _ _ (nb_b _) (⟨rfl, hw⟩) dX0_canEnd_8
set_option maxHeartbeats 4000000 in
set_option maxRecDepth 100000 in
/-- extreme -/
theorem xm_extreme (x what : Int32) (hok : pOk P) (hfx : fx < 3) (hsx : sx < 3) : MI l D cB cI yX0_extreme cX0_extreme 3 (some .int) 5 120 [.ref (ad 0), .int x, .int what] (xW ad cB cI P wy pl ac vr sl gd lk fx fv sx sw fo cn qa qb qc qd) (fun r_ w_ => r_ = (if z_w01 x what = true then (if what = nI 0 then (z_root P fx fv sx sw qa qb qc qd).2.2.1 x.toNatClampNeg else (z_root P fx fv sx sw qa qb qc qd).2.2.2.1 x.toNatClampNeg) else 0) ∧ xOK ad cB cI P w_) := by
  refine MI.of (by decide) (Nat.le_of_ble_eq_true rfl) ?_
  intro X eL eD hX hret
  subst eL; subst eD
  have hX : Fx X cX0_extreme RX0 3 5 120 cB cI := hX
  show ww X (xW ad cB cI P wy pl ac vr sl gd lk fx fv sx sw fo cn qa qb qc qd) [(0, .ref (ad 0)), (1, .int x), (2, .int what)] 0 []
  refine ww_iload_n (pc := 0) hX dX0_extreme_0 1 rfl ?_
  refine ww_callS (C := RX0) (pc := 1) (n := 1) (rest := []) hX (xm_isIndex x) (lw_S q104 q105 q21 q106) (by decide +kernel) rfl ⟨by decide, by decide⟩ rfl (Nat.le_of_ble_eq_true rfl) dX0_extreme_1 (fun r_ w_ hq_ => ?_)
  obtain ⟨rfl, rfl⟩ := hq_
  refine ww_if_eqB (pc := 4) (tgt := 16) hX dX0_extreme_4 (by decide) (fun c1 => ?_) (fun c1 => ?_)
  · refine ww_iconst (pc := 16) (v := nI 0) hX dX0_extreme_16 (by decide) ?_
    exact hret _ _ _ _ (rfl) (⟨by rw [z_w01, c1]; rfl, ⟨_, _, _, _, _, _, _, _, _, _, _, _, _, _, _, _, _, hfx, hsx, rfl⟩⟩) dX0_extreme_17
  · obtain ⟨xx, hx, rfl⟩ := z_ix_of c1
    have ex : (nI xx).toNatClampNeg = xx := nI_clamp (by omega)
    refine ww_iload_n (pc := 7) hX dX0_extreme_7 2 rfl ?_
    refine ww_if_lt (pc := 8) (tgt := 16) hX dX0_extreme_8 (by decide) (fun c2 => ?_) (fun c2 => ?_)
    · refine ww_iconst (pc := 16) (v := nI 0) hX dX0_extreme_16 (by decide) ?_
      exact hret _ _ _ _ (rfl) (⟨by rw [z_w01, c1, decide_eq_false (fun q => by rw [q] at c2; exact absurd c2 (by decide)), decide_eq_false (fun q => by rw [q] at c2; exact absurd c2 (by decide))]; rfl, ⟨_, _, _, _, _, _, _, _, _, _, _, _, _, _, _, _, _, hfx, hsx, rfl⟩⟩) dX0_extreme_17
    · refine ww_iload_n (pc := 11) hX dX0_extreme_11 2 rfl ?_
      refine ww_iconst (pc := 12) (v := nI 1) hX dX0_extreme_12 (by decide) ?_
      refine ww_icmp_le (pc := 13) (tgt := 18) hX dX0_extreme_13 (by decide) (fun c3 => ?_) (fun c3 => ?_)
      · obtain ⟨kk, hk, rfl⟩ := nI_of2 (M := nI 1) (n := 1) (by decide) c2 c3
        have hw01 : z_w01 (nI xx) (nI kk) = true := by rw [z_w01, c1]; rcases (show kk = 0 ∨ kk = 1 by omega) with rfl | rfl <;> decide
        refine ww_aload_n (pc := 18) hX dX0_extreme_18 0 rfl ?_
        refine ww_callV (pc := 19) (n := 0) (rest := []) hX (xm_walkAll hok hfx hsx) (lw_V q142 q144 qs3 q21 q145) (by decide +kernel) rfl ⟨by decide, by decide⟩ 0 0 rfl rfl rfl (Nat.le_of_ble_eq_true rfl) dX0_extreme_19 (fun w_ hq_ => ?_)
        obtain ⟨pl1, ac1, vr1, sl1, gd1, rfl⟩ := hq_
        refine ww_iload_n (pc := 22) hX dX0_extreme_22 2 rfl ?_
        refine ww_if_neN (pc := 23) (tgt := 35) hX (by omega) dX0_extreme_23 (by decide) (fun c4 => ?_) (fun c4 => ?_)
        · refine ww_aload_n (pc := 35) hX dX0_extreme_35 0 rfl ?_
          refine xg_mostV (pc := 36) hX dX0_extreme_36 ?_
          refine ww_iload_n (pc := 39) hX dX0_extreme_39 1 rfl ?_
          refine xl_mostV (pc := 40) hX (by omega) dX0_extreme_40 ?_
          exact hret _ _ _ _ (rfl) (⟨by rw [if_pos hw01, ex, if_neg (fun q => c4 ((nI_eq (by omega) (by decide)).mp q))], ⟨_, _, _, _, _, _, _, _, _, _, _, _, _, _, _, _, _, hfx, hsx, rfl⟩⟩) dX0_extreme_41
        · subst c4
          refine ww_aload_n (pc := 26) hX dX0_extreme_26 0 rfl ?_
          refine xg_leastV (pc := 27) hX dX0_extreme_27 ?_
          refine ww_iload_n (pc := 30) hX dX0_extreme_30 1 rfl ?_
          refine xl_leastV (pc := 31) hX (by omega) dX0_extreme_31 ?_
          refine ww_goto (pc := 32) (tgt := 41) hX dX0_extreme_32 (by decide) ?_
          exact hret _ _ _ _ (rfl) (⟨by rw [if_pos hw01, ex, if_pos rfl], ⟨_, _, _, _, _, _, _, _, _, _, _, _, _, _, _, _, _, hfx, hsx, rfl⟩⟩) dX0_extreme_41
      · refine ww_iconst (pc := 16) (v := nI 0) hX dX0_extreme_16 (by decide) ?_
        exact hret _ _ _ _ (rfl) (⟨by rw [z_w01, c1, decide_eq_false (fun q => by rw [q] at c3; exact absurd c3 (by decide)), decide_eq_false (fun q => by rw [q] at c3; exact absurd c3 (by decide))]; rfl, ⟨_, _, _, _, _, _, _, _, _, _, _, _, _, _, _, _, _, hfx, hsx, rfl⟩⟩) dX0_extreme_17
set_option maxHeartbeats 4000000 in
set_option maxRecDepth 100000 in
/-- accumulator -/
theorem xm_accumulator (x what : Int32) (hok : pOk P) (hfx : fx < 3) (hsx : sx < 3) : MI l D cB cI yX0_accumulator cX0_accumulator 3 (some .int) 5 120 [.ref (ad 0), .int x, .int what] (xW ad cB cI P wy pl ac vr sl gd lk fx fv sx sw fo cn qa qb qc qd) (fun r_ w_ => r_ = (if z_w01 x what = true then (if what = nI 0 then (z_root P fx fv sx sw qa qb qc qd).2.2.2.2.1 x.toNatClampNeg else (z_root P fx fv sx sw qa qb qc qd).2.2.2.2.2 x.toNatClampNeg) else 0) ∧ xOK ad cB cI P w_) := by
  refine MI.of (by decide) (Nat.le_of_ble_eq_true rfl) ?_
  intro X eL eD hX hret
  subst eL; subst eD
  have hX : Fx X cX0_accumulator RX0 3 5 120 cB cI := hX
  show ww X (xW ad cB cI P wy pl ac vr sl gd lk fx fv sx sw fo cn qa qb qc qd) [(0, .ref (ad 0)), (1, .int x), (2, .int what)] 0 []
  refine ww_iload_n (pc := 0) hX dX0_accumulator_0 1 rfl ?_
  refine ww_callS (C := RX0) (pc := 1) (n := 1) (rest := []) hX (xm_isIndex x) (lw_S q104 q105 q21 q106) (by decide +kernel) rfl ⟨by decide, by decide⟩ rfl (Nat.le_of_ble_eq_true rfl) dX0_accumulator_1 (fun r_ w_ hq_ => ?_)
  obtain ⟨rfl, rfl⟩ := hq_
  refine ww_if_eqB (pc := 4) (tgt := 16) hX dX0_accumulator_4 (by decide) (fun c1 => ?_) (fun c1 => ?_)
  · refine ww_iconst (pc := 16) (v := nI 0) hX dX0_accumulator_16 (by decide) ?_
    exact hret _ _ _ _ (rfl) (⟨by rw [z_w01, c1]; rfl, ⟨_, _, _, _, _, _, _, _, _, _, _, _, _, _, _, _, _, hfx, hsx, rfl⟩⟩) dX0_accumulator_17
  · obtain ⟨xx, hx, rfl⟩ := z_ix_of c1
    have ex : (nI xx).toNatClampNeg = xx := nI_clamp (by omega)
    refine ww_iload_n (pc := 7) hX dX0_accumulator_7 2 rfl ?_
    refine ww_if_lt (pc := 8) (tgt := 16) hX dX0_accumulator_8 (by decide) (fun c2 => ?_) (fun c2 => ?_)
    · refine ww_iconst (pc := 16) (v := nI 0) hX dX0_accumulator_16 (by decide) ?_
      exact hret _ _ _ _ (rfl) (⟨by rw [z_w01, c1, decide_eq_false (fun q => by rw [q] at c2; exact absurd c2 (by decide)), decide_eq_false (fun q => by rw [q] at c2; exact absurd c2 (by decide))]; rfl, ⟨_, _, _, _, _, _, _, _, _, _, _, _, _, _, _, _, _, hfx, hsx, rfl⟩⟩) dX0_accumulator_17
    · refine ww_iload_n (pc := 11) hX dX0_accumulator_11 2 rfl ?_
      refine ww_iconst (pc := 12) (v := nI 1) hX dX0_accumulator_12 (by decide) ?_
      refine ww_icmp_le (pc := 13) (tgt := 18) hX dX0_accumulator_13 (by decide) (fun c3 => ?_) (fun c3 => ?_)
      · obtain ⟨kk, hk, rfl⟩ := nI_of2 (M := nI 1) (n := 1) (by decide) c2 c3
        have hw01 : z_w01 (nI xx) (nI kk) = true := by rw [z_w01, c1]; rcases (show kk = 0 ∨ kk = 1 by omega) with rfl | rfl <;> decide
        refine ww_aload_n (pc := 18) hX dX0_accumulator_18 0 rfl ?_
        refine ww_callV (pc := 19) (n := 0) (rest := []) hX (xm_walkAll hok hfx hsx) (lw_V q142 q144 qs3 q21 q145) (by decide +kernel) rfl ⟨by decide, by decide⟩ 0 0 rfl rfl rfl (Nat.le_of_ble_eq_true rfl) dX0_accumulator_19 (fun w_ hq_ => ?_)
        obtain ⟨pl1, ac1, vr1, sl1, gd1, rfl⟩ := hq_
        refine ww_iload_n (pc := 22) hX dX0_accumulator_22 2 rfl ?_
        refine ww_if_neN (pc := 23) (tgt := 35) hX (by omega) dX0_accumulator_23 (by decide) (fun c4 => ?_) (fun c4 => ?_)
        · refine ww_aload_n (pc := 35) hX dX0_accumulator_35 0 rfl ?_
          refine xg_mostA (pc := 36) hX dX0_accumulator_36 ?_
          refine ww_iload_n (pc := 39) hX dX0_accumulator_39 1 rfl ?_
          refine xl_mostA (pc := 40) hX (by omega) dX0_accumulator_40 ?_
          exact hret _ _ _ _ (rfl) (⟨by rw [if_pos hw01, ex, if_neg (fun q => c4 ((nI_eq (by omega) (by decide)).mp q))], ⟨_, _, _, _, _, _, _, _, _, _, _, _, _, _, _, _, _, hfx, hsx, rfl⟩⟩) dX0_accumulator_41
        · subst c4
          refine ww_aload_n (pc := 26) hX dX0_accumulator_26 0 rfl ?_
          refine xg_leastA (pc := 27) hX dX0_accumulator_27 ?_
          refine ww_iload_n (pc := 30) hX dX0_accumulator_30 1 rfl ?_
          refine xl_leastA (pc := 31) hX (by omega) dX0_accumulator_31 ?_
          refine ww_goto (pc := 32) (tgt := 41) hX dX0_accumulator_32 (by decide) ?_
          exact hret _ _ _ _ (rfl) (⟨by rw [if_pos hw01, ex, if_pos rfl], ⟨_, _, _, _, _, _, _, _, _, _, _, _, _, _, _, _, _, hfx, hsx, rfl⟩⟩) dX0_accumulator_41
      · refine ww_iconst (pc := 16) (v := nI 0) hX dX0_accumulator_16 (by decide) ?_
        exact hret _ _ _ _ (rfl) (⟨by rw [z_w01, c1, decide_eq_false (fun q => by rw [q] at c3; exact absurd c3 (by decide)), decide_eq_false (fun q => by rw [q] at c3; exact absurd c3 (by decide))]; rfl, ⟨_, _, _, _, _, _, _, _, _, _, _, _, _, _, _, _, _, hfx, hsx, rfl⟩⟩) dX0_accumulator_17
set_option maxHeartbeats 4000000 in
set_option maxRecDepth 100000 in
/-- races -/
theorem xm_races (x : Int32) (hok : pOk P) (hfx : fx < 3) (hsx : sx < 3) : MI l D cB cI yX0_races cX0_races 2 (some .boolean) 5 120 [.ref (ad 0), .int x] (xW ad cB cI P wy pl ac vr sl gd lk fx fv sx sw fo cn qa qb qc qd) (fun r_ w_ => r_ = bI (z_ix x && decide ((z_root P fx fv sx sw qa qb qc qd).2.2.1 x.toNatClampNeg ≠ (z_root P fx fv sx sw qa qb qc qd).2.2.2.1 x.toNatClampNeg)) ∧ xOK ad cB cI P w_) := by
  refine MI.of (by decide) (Nat.le_of_ble_eq_true rfl) ?_
  intro X eL eD hX hret
  subst eL; subst eD
  have hX : Fx X cX0_races RX0 2 5 120 cB cI := hX
  show ww X (xW ad cB cI P wy pl ac vr sl gd lk fx fv sx sw fo cn qa qb qc qd) [(0, .ref (ad 0)), (1, .int x)] 0 []
  refine ww_iload_n (pc := 0) hX dX0_races_0 1 rfl ?_
  refine ww_callS (C := RX0) (pc := 1) (n := 1) (rest := []) hX (xm_isIndex x) (lw_S q104 q105 q21 q106) (by decide +kernel) rfl ⟨by decide, by decide⟩ rfl (Nat.le_of_ble_eq_true rfl) dX0_races_1 (fun r_ w_ hq_ => ?_)
  obtain ⟨rfl, rfl⟩ := hq_
  refine ww_if_neB (pc := 4) (tgt := 9) hX dX0_races_4 (by decide) (fun c1 => ?_) (fun c1 => ?_)
  · obtain ⟨xx, hx, rfl⟩ := z_ix_of c1
    have ex : (nI xx).toNatClampNeg = xx := nI_clamp (by omega)
    refine ww_aload_n (pc := 9) hX dX0_races_9 0 rfl ?_
    refine ww_callV (pc := 10) (n := 0) (rest := []) hX (xm_walkAll hok hfx hsx) (lw_V q142 q144 qs3 q21 q145) (by decide +kernel) rfl ⟨by decide, by decide⟩ 0 0 rfl rfl rfl (Nat.le_of_ble_eq_true rfl) dX0_races_10 (fun w_ hq_ => ?_)
    obtain ⟨pl1, ac1, vr1, sl1, gd1, rfl⟩ := hq_
    refine ww_aload_n (pc := 13) hX dX0_races_13 0 rfl ?_
    refine xg_leastV (pc := 14) hX dX0_races_14 ?_
    refine ww_iload_n (pc := 17) hX dX0_races_17 1 rfl ?_
    refine xl_leastV (pc := 18) hX (by omega) dX0_races_18 ?_
    refine ww_aload_n (pc := 19) hX dX0_races_19 0 rfl ?_
    refine xg_mostV (pc := 20) hX dX0_races_20 ?_
    refine ww_iload_n (pc := 23) hX dX0_races_23 1 rfl ?_
    refine xl_mostV (pc := 24) hX (by omega) dX0_races_24 ?_
    refine ww_icmp_eq (pc := 25) (tgt := 32) hX dX0_races_25 (by decide) (fun c2 => ?_) (fun c2 => ?_)
    · refine ww_iconst (pc := 32) (v := bI false) hX dX0_races_32 (by first | decide | rfl) ?_
      exact hret _ _ _ _ (nb_b _) (⟨by rw [c1, ex, decide_eq_false (fun q => q c2)]; rfl, ⟨_, _, _, _, _, _, _, _, _, _, _, _, _, _, _, _, _, hfx, hsx, rfl⟩⟩) dX0_races_33
    · refine ww_iconst (pc := 28) (v := bI true) hX dX0_races_28 (by first | decide | rfl) ?_
      refine ww_goto (pc := 29) (tgt := 33) hX dX0_races_29 (by decide) ?_
      exact hret _ _ _ _ (nb_b _) (⟨by rw [c1, ex, decide_eq_true c2]; rfl, ⟨_, _, _, _, _, _, _, _, _, _, _, _, _, _, _, _, _, hfx, hsx, rfl⟩⟩) dX0_races_33
  · refine ww_iconst (pc := 7) (v := bI false) hX dX0_races_7 (by first | decide | rfl) ?_
    exact hret _ _ _ _ (nb_b _) (⟨by rw [c1]; rfl, ⟨_, _, _, _, _, _, _, _, _, _, _, _, _, _, _, _, _, hfx, hsx, rfl⟩⟩) dX0_races_8
end XH
end
section
/-! the reference: its state against the pure one -/
def z_hld (P : Pg) (a : Nat → Nat) (l : Nat) : Int32 := if z_hold P 0 (nI l) (a 0) = true then nI 0 else if z_hold P 1 (nI l) (a 1) = true then nI 1 else if z_hold P 2 (nI l) (a 2) = true then nI 2 else -1
def z_mst (P : Pg) (g : Zs) (va : Nat → Int32) (pt : Nat → Nat) (ho : Nat → Int32) : Prop := (∀ i, i < 3 → va i = g.2.1 i ∧ va (3 + i) = g.2.2 i ∧ pt i = g.1 i) ∧ ∀ l, l < 2 → ho l = z_hld P g.1 l
/-- no lock has two holders -/
def z_mux (P : Pg) (a : Nat → Nat) : Prop := ∀ (l : Int32) (s t : Nat), s < 3 → t < 3 → z_hold P s l (a s) = true → z_hold P t l (a t) = true → s = t
theorem z_hold_s (P : Pg) (t : Nat) (l : Int32) (d : Nat) : z_hold P t l (d + 1) = if pN P (t * 4 + d) = l ∧ 4 ≤ pK P (t * 4 + d) then decide (pK P (t * 4 + d) = 4) else z_hold P t l d := rfl
theorem z_can_kind {P : Pg} {a : Nat → Nat} {t : Nat} (h : z_can P a t = true) (h4 : pK P (t * 4 + a t) = 4) : ∀ s, s < 3 → z_hold P s (pN P (t * 4 + a t)) (a s) = false := by
  unfold z_can at h
  rw [show decide (pK P (t * 4 + a t) ≠ 4) = false from decide_eq_false (fun q => q h4), Bool.and_eq_true, Bool.false_or, Bool.and_eq_true, Bool.and_eq_true] at h
  obtain ⟨-, ⟨h0, h1⟩, h2⟩ := h
  intro s hs
  rcases (show s = 0 ∨ s = 1 ∨ s = 2 by omega) with rfl | rfl | rfl
  · simpa using h0
  · simpa using h1
  · simpa using h2
theorem z_mux_stp {P : Pg} {a : Nat → Nat} {t : Nat} (hm : z_mux P a) (hc : z_can P a t = true) : z_mux P (va_up a t (a t + 1)) := by
  have key : ∀ (l : Int32) (s : Nat), s < 3 → z_hold P s l (va_up a t (a t + 1) s) = true → z_hold P s l (a s) = true ∨ (s = t ∧ pK P (t * 4 + a t) = 4 ∧ pN P (t * 4 + a t) = l) := by
    intro l s hs h
    by_cases hst : s = t
    · subst hst
      rw [va_up_self, z_hold_s] at h
      split at h
      · next hh => exact Or.inr ⟨rfl, of_decide_eq_true h, hh.1⟩
      · exact Or.inl h
    · rw [va_up_ne _ _ hst] at h
      exact Or.inl h
  intro l s u hs hu h1 h2
  rcases key l s hs h1 with h1 | ⟨e1, k1, n1⟩
  · rcases key l u hu h2 with h2 | ⟨e2, k2, n2⟩
    · exact hm l s u hs hu h1 h2
    · have := z_can_kind hc k2 s hs
      rw [n2, h1] at this
      cases this
  · rcases key l u hu h2 with h2 | ⟨e2, k2, n2⟩
    · have := z_can_kind hc k1 u hu
      rw [n1, h2] at this
      cases this
    · rw [e1, e2]
theorem z_mux_0 (P : Pg) : z_mux P (z_0 P).1 := by
  intro l s t _ _ h
  exact absurd h (by simp [z_0, z_hold])
/-- the holder, by threads -/
theorem z_hld_t {P : Pg} {a : Nat → Nat} (hm : z_mux P a) {l t : Nat} (ht : t < 3) : z_hld P a l = nI t ↔ z_hold P t (nI l) (a t) = true := by
  have m01 := hm (nI l) 0 1 (by decide) (by decide)
  have m02 := hm (nI l) 0 2 (by decide) (by decide)
  have m12 := hm (nI l) 1 2 (by decide) (by decide)
  unfold z_hld
  rcases (show t = 0 ∨ t = 1 ∨ t = 2 by omega) with rfl | rfl | rfl <;> cases h0 : z_hold P 0 (nI l) (a 0) <;> cases h1 : z_hold P 1 (nI l) (a 1) <;> cases h2 : z_hold P 2 (nI l) (a 2) <;> rw [h0, h1] at m01 <;> rw [h0, h2] at m02 <;> rw [h1, h2] at m12 <;> first | decide | (exfalso; first | exact absurd (m01 rfl rfl) (by decide) | exact absurd (m02 rfl rfl) (by decide) | exact absurd (m12 rfl rfl) (by decide))
theorem z_hld_neg {P : Pg} {a : Nat → Nat} {l : Nat} : ¬ (0 ≤ z_hld P a l) ↔ (z_hold P 0 (nI l) (a 0) = false ∧ z_hold P 1 (nI l) (a 1) = false ∧ z_hold P 2 (nI l) (a 2) = false) := by
  unfold z_hld
  cases h0 : z_hold P 0 (nI l) (a 0) <;> cases h1 : z_hold P 1 (nI l) (a 1) <;> cases h2 : z_hold P 2 (nI l) (a 2) <;> decide
theorem z_hld_none {P : Pg} {a : Nat → Nat} {l : Nat} (h : ∀ s, s < 3 → z_hold P s (nI l) (a s) = false) : z_hld P a l = -1 := by
  unfold z_hld
  rw [h 0 (by decide), h 1 (by decide), h 2 (by decide)]
  decide
theorem z_hld_congr {P : Pg} {a a' : Nat → Nat} {l : Nat} (h : ∀ s, s < 3 → z_hold P s (nI l) (a' s) = z_hold P s (nI l) (a s)) : z_hld P a' l = z_hld P a l := by
  unfold z_hld
  rw [h 0 (by decide), h 1 (by decide), h 2 (by decide)]
/-- a step that isn't one on lock l leaves its holder -/
theorem z_hld_keep {P : Pg} {a : Nat → Nat} {l t : Nat} (h : ¬ (pN P (t * 4 + a t) = nI l ∧ 4 ≤ pK P (t * 4 + a t))) : z_hld P (va_up a t (a t + 1)) l = z_hld P a l := by
  refine z_hld_congr (fun s hs => ?_)
  by_cases hst : s = t
  · subst hst
    rw [va_up_self, z_hold_s, if_neg h]
  · rw [va_up_ne _ _ hst]
theorem z_hld_take {P : Pg} {a : Nat → Nat} {l t : Nat} (hm : z_mux P a) (hc : z_can P a t = true) (ht : t < 3) (h4 : pK P (t * 4 + a t) = 4) (hn : pN P (t * 4 + a t) = nI l) : z_hld P (va_up a t (a t + 1)) l = nI t := by
  refine (z_hld_t (z_mux_stp hm hc) ht).mpr ?_
  rw [va_up_self, z_hold_s, if_pos ⟨hn, by omega⟩]
  exact decide_eq_true h4
theorem z_hld_give {P : Pg} {a : Nat → Nat} {l t : Nat} (hm : z_mux P a) (ht : t < 3) (h5 : pK P (t * 4 + a t) = 5) (hn : pN P (t * 4 + a t) = nI l) : z_hld P (va_up a t (a t + 1)) l = if z_hld P a l = nI t then -1 else z_hld P a l := by
  have hft : z_hold P t (nI l) (va_up a t (a t + 1) t) = false := by
    rw [va_up_self, z_hold_s, if_pos ⟨hn, by omega⟩]
    exact decide_eq_false (by omega)
  split
  · next h =>
    have h1 := (z_hld_t hm ht).mp h
    refine z_hld_none (fun s hs => ?_)
    by_cases hst : s = t
    · subst hst; exact hft
    · rw [va_up_ne _ _ hst]
      cases hh : z_hold P s (nI l) (a s)
      · rfl
      · exact absurd (hm (nI l) s t hs ht hh h1) hst
  · next h =>
    have h1 : z_hold P t (nI l) (a t) = false := by
      cases hh : z_hold P t (nI l) (a t)
      · rfl
      · exact absurd ((z_hld_t hm ht).mpr hh) h
    refine z_hld_congr (fun s hs => ?_)
    by_cases hst : s = t
    · subst hst; rw [hft, h1]
    · rw [va_up_ne _ _ hst]
/-! schedules as lists of threads -/
def z_ext (P : Pg) : Nat → Zs → List Nat
  | 0, _ => []
  | n + 1, g => match z_fst (z_can P g.1) with
    | none => []
    | some t => t :: z_ext P n (z_stp P t g)
def z_sta (P : Pg) (w : List Nat) : Zs := z_run P (z_0 P) w
def z_cell (P : Pg) (w : List Nat) (i : Nat) : Nat := w.getD i 0 * 4 + (z_sta P (w.take i)).1 (w.getD i 0)
/-- the arrays turn and steps hold the schedule w -/
def z_agr (P : Pg) (w : List Nat) (tu st : Nat → Nat) : Prop := ∀ i, i < w.length → tu i = w.getD i 0 ∧ st i = z_cell P w i
def z_tur (w : List Nat) (tu : Nat → Nat) : Prop := ∀ i, i < w.length → tu i = w.getD i 0
/-- the least thread behind t -/
def z_gt (f : Nat → Bool) (t : Nat) : Option Nat := z_fst (fun s => decide (t < s) && f s)
def z_nxr (P : Pg) : List Nat → Option (List Nat)
  | [] => none
  | t :: r => match z_gt (z_can P (z_sta P r.reverse).1) t with
    | some t' => some (r.reverse ++ [t'] ++ z_ext P (11 - r.length) (z_sta P (r.reverse ++ [t'])))
    | none => z_nxr P r
def z_nx (P : Pg) (w : List Nat) : Option (List Nat) := z_nxr P w.reverse
def z_first (P : Pg) : List Nat := z_ext P 12 (z_0 P)
def z_loop {α : Type} (P : Pg) (f : List Nat → α → α) : Nat → List Nat → α → α
  | 0, _, a => a
  | k + 1, w, a => match z_nx P w with
    | none => f w a
    | some w' => z_loop P f k w' (f w a)
theorem z_run_app (P : Pg) (g : Zs) (u v : List Nat) : z_run P g (u ++ v) = z_run P (z_run P g u) v := by
  unfold z_run
  exact List.foldl_append ..
theorem z_sta_app (P : Pg) (u : List Nat) (t : Nat) : z_sta P (u ++ [t]) = z_stp P t (z_sta P u) := by
  unfold z_sta
  rw [z_run_app]
  rfl
theorem z_vl_app {P : Pg} : ∀ {u v : List Nat} {g : Zs}, z_vl P g (u ++ v) ↔ z_vl P g u ∧ z_vl P (z_run P g u) v
  | [], v, g => ⟨fun h => ⟨trivial, h⟩, fun h => h.2⟩
  | t :: u, v, g => by
    show (t < 3 ∧ _ ∧ z_vl P (z_stp P t g) (u ++ v)) ↔ (t < 3 ∧ _ ∧ z_vl P (z_stp P t g) u) ∧ z_vl P (z_run P (z_stp P t g) u) v
    rw [z_vl_app (u := u)]
    constructor
    · rintro ⟨a, b, c, d⟩; exact ⟨⟨a, b, c⟩, d⟩
    · rintro ⟨⟨a, b, c⟩, d⟩; exact ⟨a, b, c, d⟩
/-- a valid schedule: the state behind it, no lock with two holders, its places -/
theorem z_vl_in {P : Pg} : ∀ {w : List Nat} {g : Zs} {L : Nat}, z_vl P g w → z_in P g L → z_mux P g.1 → z_in P (z_run P g w) (L + w.length) ∧ z_mux P (z_run P g w).1
  | [], g, L, _, hi, hm => ⟨hi, hm⟩
  | t :: w, g, L, ⟨h1, h2, h3⟩, hi, hm => by
    have h := z_vl_in (w := w) h3 (z_in_stp hi h1 h2) (z_mux_stp hm h2)
    rw [show L + (t :: w).length = L + 1 + w.length by rw [List.length_cons]; omega]
    exact h
theorem z_0_in (P : Pg) : z_in P (z_0 P) 0 := ⟨fun _ _ => Nat.zero_le _, rfl⟩
abbrev z_ok (P : Pg) (w : List Nat) : Prop := z_vl P (z_0 P) w
theorem z_ok_in {P : Pg} {w : List Nat} (h : z_ok P w) : z_in P (z_sta P w) w.length ∧ z_mux P (z_sta P w).1 := by
  have := z_vl_in h (z_0_in P) (z_mux_0 P)
  rwa [Nat.zero_add] at this
theorem z_ok_len {P : Pg} (hok : pOk P) {w : List Nat} (h : z_ok P w) : w.length ≤ 12 := by
  obtain ⟨⟨h1, h2⟩, -⟩ := z_ok_in h
  have a0 := h1 0 (by decide); have a1 := h1 1 (by decide); have a2 := h1 2 (by decide)
  have b0 := hok.1 0; have b1 := hok.1 1; have b2 := hok.1 2
  omega
theorem z_ok_snoc {P : Pg} {u : List Nat} {t : Nat} : z_ok P (u ++ [t]) ↔ z_ok P u ∧ t < 3 ∧ z_can P (z_sta P u).1 t = true := by
  show z_vl P (z_0 P) (u ++ [t]) ↔ _
  rw [z_vl_app]
  constructor
  · rintro ⟨a, b, c, -⟩; exact ⟨a, b, c⟩
  · rintro ⟨a, b, c⟩; exact ⟨a, b, c, trivial⟩
theorem z_ok_take {P : Pg} {w : List Nat} (h : z_ok P w) {i : Nat} (hi : i < w.length) : z_ok P (w.take i) ∧ w.getD i 0 < 3 ∧ z_can P (z_sta P (w.take i)).1 (w.getD i 0) = true ∧ w.take (i + 1) = w.take i ++ [w.getD i 0] := by
  have e : w.take (i + 1) = w.take i ++ [w.getD i 0] := by
    rw [List.take_succ, List.getElem?_eq_getElem hi, List.getD_eq_getElem?_getD, List.getElem?_eq_getElem hi]
    rfl
  have h1 : z_ok P (w.take (i + 1)) := by
    have : z_ok P (w.take (i + 1) ++ w.drop (i + 1)) := by rw [List.take_append_drop]; exact h
    exact (z_vl_app.mp this).1
  rw [e] at h1
  obtain ⟨a, b, c⟩ := z_ok_snoc.mp h1
  exact ⟨a, b, c, e⟩
theorem z_ok_pre {P : Pg} {u v : List Nat} (h : z_ok P (u ++ v)) : z_ok P u := (z_vl_app.mp h).1
end
section
section MA
variable {l : Launch} {D : va_G} {cB cI : ClassId} {ad : Nat → Nat} {P : Pg} {tn : Nat} {tu st : Nat → Nat} {va : Nat → Int32} {pt : Nat → Nat} {ho : Nat → Int32}
theorem i32_le2 {x : Int32} (h : nI 2 < x) : nI 3 ≤ x := by
  rw [Int32.lt_iff_toInt_lt, nI_toInt (by decide)] at h
  rw [Int32.le_iff_toInt_le, nI_toInt (by decide)]
  omega
theorem i32_lt3 {x : Int32} (h : ¬ nI 2 < x) : ¬ nI 3 ≤ x := by
  rw [Int32.lt_iff_toInt_lt, nI_toInt (by decide)] at h
  rw [Int32.le_iff_toInt_le, nI_toInt (by decide)]
  omega
theorem z_ix_t {x : Int32} (h1 : ¬ x < 0) (h2 : ¬ nI 2 < x) : z_ix x = true := decide_eq_true ⟨h1, i32_lt3 h2⟩
theorem z_ix_f1 {x : Int32} (h : x < 0) : z_ix x = false := decide_eq_false (fun q => q.1 h)
theorem z_ix_f2 {x : Int32} (h : nI 2 < x) : z_ix x = false := decide_eq_false (fun q => q.2 (i32_le2 h))
set_option maxHeartbeats 4000000 in
set_option maxRecDepth 100000 in
/-- thread -/
theorem mm_thread (x : Int32) : MI l D cB cI yX1_thread cX1_thread 2 (some .boolean) 0 0 [.ref (ad 0), .int x] (mW ad cI P tn tu st va pt ho) (fun r_ w_ => r_ = bI (z_ix x) ∧ w_ = mW ad cI P tn tu st va pt ho) := by
  refine MI.of (by decide) (Nat.le_of_ble_eq_true rfl) ?_
  intro X eL eD hX hret
  subst eL; subst eD
  have hX : Fx X cX1_thread RX1 2 0 0 cB cI := hX
  show ww X (mW ad cI P tn tu st va pt ho) [(0, .ref (ad 0)), (1, .int x)] 0 []
  refine ww_iload_n (pc := 0) hX dX1_thread_0 1 rfl ?_
  refine ww_if_lt (pc := 1) (tgt := 13) hX dX1_thread_1 (by decide) (fun c1 => ?_) (fun c1 => ?_)
  · refine ww_iconst (pc := 13) (v := bI false) hX dX1_thread_13 (by first | decide | rfl) ?_
    exact hret _ _ _ _ (nb_b _) (⟨congrArg bI (z_ix_f1 c1).symm, rfl⟩) dX1_thread_14
  · refine ww_iload_n (pc := 4) hX dX1_thread_4 1 rfl ?_
    refine ww_iconst (pc := 5) (v := nI 2) hX dX1_thread_5 (by decide) ?_
    refine ww_icmp_gt (pc := 6) (tgt := 13) hX dX1_thread_6 (by decide) (fun c2 => ?_) (fun c2 => ?_)
    · refine ww_iconst (pc := 13) (v := bI false) hX dX1_thread_13 (by first | decide | rfl) ?_
      exact hret _ _ _ _ (nb_b _) (⟨congrArg bI (z_ix_f2 c2).symm, rfl⟩) dX1_thread_14
    · refine ww_iconst (pc := 9) (v := bI true) hX dX1_thread_9 (by first | decide | rfl) ?_
      refine ww_goto (pc := 10) (tgt := 14) hX dX1_thread_10 (by decide) ?_
      exact hret _ _ _ _ (nb_b _) (⟨congrArg bI (z_ix_t c1 c2).symm, rfl⟩) dX1_thread_14
set_option maxHeartbeats 4000000 in
set_option maxRecDepth 100000 in
/-- step -/
theorem mm_step (t k n : Int32) (hok : pOk P) : MI l D cB cI yX1_step cX1_step 4 (some .int) 1 21 [.ref (ad 0), .int t, .int k, .int n] (mW ad cI P tn tu st va pt ho) (fun r_ w_ => r_ = (z_stepR P t k n).1 ∧ mOK ad cI (z_stepR P t k n).2 w_) := by
  refine MI.of (by decide) (Nat.le_of_ble_eq_true rfl) ?_
  intro X eL eD hX hret
  subst eL; subst eD
  have hX : Fx X cX1_step RX1 4 1 21 cB cI := hX
  show ww X (mW ad cI P tn tu st va pt ho) [(0, .ref (ad 0)), (1, .int t), (2, .int k), (3, .int n)] 0 []
  refine ww_aload_n (pc := 0) hX dX1_step_0 0 rfl ?_
  refine ww_iload_n (pc := 1) hX dX1_step_1 1 rfl ?_
  refine ww_callI (pc := 2) (n := 1) (rest := []) hX (mm_thread t) (lw_V q240 q242 qs10 q22 q243) (by decide +kernel) rfl ⟨by decide, by decide⟩ 0 1 rfl rfl rfl (Nat.le_of_ble_eq_true rfl) dX1_step_2 (fun r_ w_ hq_ => ?_)
  obtain ⟨rfl, rfl⟩ := hq_
  refine ww_if_eqB (pc := 5) (tgt := 45) hX dX1_step_5 (by decide) (fun c1 => ?_) (fun c1 => ?_)
  · have hbad : ¬ z_sok t k n := by
      rintro ⟨tt, kk, h1, -, rfl, -⟩
      rw [z_ix_nI h1] at c1; cases c1
    refine ww_iconst (pc := 45) (v := -1) hX dX1_step_45 (by decide) ?_
    exact hret _ _ _ _ (rfl) (by rw [z_stepR_bad hbad]; exact ⟨rfl, ⟨_, _, _, _, _, _, rfl⟩⟩) dX1_step_46
  · obtain ⟨tt, ht, rfl⟩ := z_ix_of c1
    refine ww_iload_n (pc := 8) hX dX1_step_8 2 rfl ?_
    refine ww_if_lt (pc := 9) (tgt := 45) hX dX1_step_9 (by decide) (fun c2 => ?_) (fun c2 => ?_)
    · have hbad : ¬ z_sok (nI tt) k n := by
        rintro ⟨_, kk, -, h1, -, rfl, -⟩
        exact absurd c2 (nI_pos (by omega))
      refine ww_iconst (pc := 45) (v := -1) hX dX1_step_45 (by decide) ?_
      exact hret _ _ _ _ (rfl) (by rw [z_stepR_bad hbad]; exact ⟨rfl, ⟨_, _, _, _, _, _, rfl⟩⟩) dX1_step_46
    · refine ww_iload_n (pc := 12) hX dX1_step_12 2 rfl ?_
      refine ww_iconst (pc := 13) (v := nI 5) hX dX1_step_13 (by decide) ?_
      refine ww_icmp_gt (pc := 14) (tgt := 45) hX dX1_step_14 (by decide) (fun c3 => ?_) (fun c3 => ?_)
      · have hbad : ¬ z_sok (nI tt) k n := by
          rintro ⟨_, kk, -, h1, -, rfl, -⟩
          exact absurd ((nI_ltI (by decide) (by omega)).mp c3) (by omega)
        refine ww_iconst (pc := 45) (v := -1) hX dX1_step_45 (by decide) ?_
        exact hret _ _ _ _ (rfl) (by rw [z_stepR_bad hbad]; exact ⟨rfl, ⟨_, _, _, _, _, _, rfl⟩⟩) dX1_step_46
      · obtain ⟨kk, hk, rfl⟩ := nI_of2 (M := nI 5) (n := 5) (by decide) c2 (Int32.not_lt.mp c3)
        have J47 : (kk ≤ 2 → ∃ i, i < 3 ∧ n = nI i) → (4 ≤ kk → ∃ i, i < 2 ∧ n = nI i) → ww X (mW ad cI P tn tu st va pt ho) [(0, .ref (ad 0)), (1, .int (nI tt)), (2, .int (nI kk)), (3, .int n)] 47 [] := by
          intro h1 h2
          have hs := hok.1 tt
          rw [z_stepR_ok ht hk h1 h2] at hret
          refine ww_aload_n (pc := 47) hX dX1_step_47 0 rfl ?_
          refine mg_size (pc := 48) hX dX1_step_48 ?_
          refine ww_iload_n (pc := 51) hX dX1_step_51 1 rfl ?_
          refine ml_size (pc := 52) hX (by omega) dX1_step_52 ?_
          refine ww_iconst (pc := 53) (v := nI 4) hX dX1_step_53 (by decide) ?_
          refine ww_icmp_ltN (pc := 54) (tgt := 60) hX (by omega) (by omega) dX1_step_54 (by decide) (fun d1 => ?_) (fun d1 => ?_)
          · rw [if_pos d1] at hret
            refine ww_aload_n (pc := 60) hX dX1_step_60 0 rfl ?_
            refine mg_kinds (pc := 61) hX dX1_step_61 ?_
            refine ww_iconst (pc := 64) (v := nI 4) hX dX1_step_64 (by decide) ?_
            refine ww_iload_n (pc := 65) hX dX1_step_65 1 rfl ?_
            refine ww_imulN (pc := 66) hX dX1_step_66 ?_
            rw [Nat.mul_comm 4 tt]
            refine ww_aload_n (pc := 67) hX dX1_step_67 0 rfl ?_
            refine mg_size (pc := 68) hX dX1_step_68 ?_
            refine ww_iload_n (pc := 71) hX dX1_step_71 1 rfl ?_
            refine ml_size (pc := 72) hX (by omega) dX1_step_72 ?_
            refine ww_iaddN (pc := 73) hX dX1_step_73 ?_
            refine ww_iload_n (pc := 74) hX dX1_step_74 2 rfl ?_
            refine ms_kinds (pc := 75) hX (by omega) dX1_step_75 ?_
            refine ww_aload_n (pc := 76) hX dX1_step_76 0 rfl ?_
            refine mg_numbers (pc := 77) hX dX1_step_77 ?_
            refine ww_iconst (pc := 80) (v := nI 4) hX dX1_step_80 (by decide) ?_
            refine ww_iload_n (pc := 81) hX dX1_step_81 1 rfl ?_
            refine ww_imulN (pc := 82) hX dX1_step_82 ?_
            rw [Nat.mul_comm 4 tt]
            refine ww_aload_n (pc := 83) hX dX1_step_83 0 rfl ?_
            refine mg_size (pc := 84) hX dX1_step_84 ?_
            refine ww_iload_n (pc := 87) hX dX1_step_87 1 rfl ?_
            refine ml_size (pc := 88) hX (by omega) dX1_step_88 ?_
            show ww X (mW ad cI (pS P, va_up (pK P) ((tt * 4) + ((pS P) tt)) kk, pN P, pV P, pA P) tn tu st va pt ho) [(0, .ref (ad 0)), (1, .int (nI tt)), (2, .int (nI kk)), (3, .int n)] 89 [.int (nI ((pS P) tt)), .int (nI (tt * 4)), .ref (ad 3)]
            refine ww_iaddN (pc := 89) hX dX1_step_89 ?_
            refine ww_iload_n (pc := 90) hX dX1_step_90 3 rfl ?_
            refine ms_numbers (pc := 91) hX (by omega) dX1_step_91 ?_
            refine ww_aload_n (pc := 92) hX dX1_step_92 0 rfl ?_
            refine mg_size (pc := 93) hX dX1_step_93 ?_
            refine ww_iload_n (pc := 96) hX dX1_step_96 1 rfl ?_
            refine ww_dup2 (pc := 97) hX dX1_step_97 rfl rfl ?_
            refine ml_size (pc := 98) hX (by omega) dX1_step_98 ?_
            show ww X (mW ad cI (pS P, va_up (pK P) ((tt * 4) + ((pS P) tt)) kk, va_up (pN P) ((tt * 4) + ((pS P) tt)) n, pV P, pA P) tn tu st va pt ho) [(0, .ref (ad 0)), (1, .int (nI tt)), (2, .int (nI kk)), (3, .int n)] 99 [.int (nI ((pS P) tt)), .int (nI tt), .ref (ad 1)]
            refine ww_iconst (pc := 99) (v := nI 1) hX dX1_step_99 (by decide) ?_
            refine ww_iaddN (pc := 100) hX dX1_step_100 ?_
            refine ms_size (pc := 101) hX (by omega) dX1_step_101 ?_
            refine ww_aload_n (pc := 102) hX dX1_step_102 0 rfl ?_
            refine mg_size (pc := 103) hX dX1_step_103 ?_
            refine ww_iload_n (pc := 106) hX dX1_step_106 1 rfl ?_
            refine ml_size (pc := 107) hX (by omega) dX1_step_107 ?_
            show ww X (mW ad cI (va_up (pS P) tt (((pS P) tt) + 1), va_up (pK P) ((tt * 4) + ((pS P) tt)) kk, va_up (pN P) ((tt * 4) + ((pS P) tt)) n, pV P, pA P) tn tu st va pt ho) [(0, .ref (ad 0)), (1, .int (nI tt)), (2, .int (nI kk)), (3, .int n)] 108 [.int (nI ((va_up (pS P) tt (((pS P) tt) + 1)) tt))]
            rw [va_up_self]
            refine ww_iconst (pc := 108) (v := nI 1) hX dX1_step_108 (by decide) ?_
            refine ww_isubN (pc := 109) hX (by omega) dX1_step_109 ?_
            exact hret _ _ _ _ (rfl) (⟨rfl, ⟨_, _, _, _, _, _, rfl⟩⟩) dX1_step_110
          · rw [if_neg (by omega)] at hret
            refine ww_bipush (pc := 57) (v := -2) hX dX1_step_57 (by decide) ?_
            exact hret _ _ _ _ (rfl) (⟨rfl, ⟨_, _, _, _, _, _, rfl⟩⟩) dX1_step_59
        have J31 : (kk ≤ 2 → ∃ i, i < 3 ∧ n = nI i) → ww X (mW ad cI P tn tu st va pt ho) [(0, .ref (ad 0)), (1, .int (nI tt)), (2, .int (nI kk)), (3, .int n)] 31 [] := by
          intro h1
          refine ww_iload_n (pc := 31) hX dX1_step_31 2 rfl ?_
          refine ww_iconst (pc := 32) (v := nI 4) hX dX1_step_32 (by decide) ?_
          refine ww_icmp_ltN (pc := 33) (tgt := 47) hX (by omega) (by omega) dX1_step_33 (by decide) (fun d1 => ?_) (fun d1 => ?_)
          · exact J47 h1 (fun q => absurd q (by omega))
          · refine ww_iload_n (pc := 36) hX dX1_step_36 3 rfl ?_
            refine ww_if_eq (pc := 37) (tgt := 47) hX dX1_step_37 (by decide) (fun d2 => ?_) (fun d2 => ?_)
            · exact J47 h1 (fun _ => ⟨0, by decide, d2⟩)
            · refine ww_iload_n (pc := 40) hX dX1_step_40 3 rfl ?_
              refine ww_iconst (pc := 41) (v := nI 1) hX dX1_step_41 (by decide) ?_
              refine ww_icmp_eq (pc := 42) (tgt := 47) hX dX1_step_42 (by decide) (fun d3 => ?_) (fun d3 => ?_)
              · exact J47 h1 (fun _ => ⟨1, by decide, d3⟩)
              · have hbad : ¬ z_sok (nI tt) (nI kk) n := by
                  rintro ⟨_, kk', -, h3, -, h4, -, h5⟩
                  obtain rfl := (nI_eq (by omega) (by omega)).mp h4
                  obtain ⟨i, hi, rfl⟩ := h5 d1
                  rcases (show i = 0 ∨ i = 1 by omega) with rfl | rfl
                  · exact d2 rfl
                  · exact d3 rfl
                refine ww_iconst (pc := 45) (v := -1) hX dX1_step_45 (by decide) ?_
                exact hret _ _ _ _ (rfl) (by rw [z_stepR_bad hbad]; exact ⟨rfl, ⟨_, _, _, _, _, _, rfl⟩⟩) dX1_step_46
        refine ww_iload_n (pc := 17) hX dX1_step_17 2 rfl ?_
        refine ww_iconst (pc := 18) (v := nI 2) hX dX1_step_18 (by decide) ?_
        refine ww_icmp_gtN (pc := 19) (tgt := 31) hX (by omega) (by omega) dX1_step_19 (by decide) (fun c4 => ?_) (fun c4 => ?_)
        · exact J31 (fun q => absurd q (by omega))
        · refine ww_iload_n (pc := 22) hX dX1_step_22 3 rfl ?_
          refine ww_if_lt (pc := 23) (tgt := 45) hX dX1_step_23 (by decide) (fun c5 => ?_) (fun c5 => ?_)
          · have hbad : ¬ z_sok (nI tt) (nI kk) n := by
              rintro ⟨_, kk', -, h3, -, h4, h5, -⟩
              obtain rfl := (nI_eq (by omega) (by omega)).mp h4
              obtain ⟨i, hi, rfl⟩ := h5 c4
              exact absurd c5 (nI_pos (by omega))
            refine ww_iconst (pc := 45) (v := -1) hX dX1_step_45 (by decide) ?_
            exact hret _ _ _ _ (rfl) (by rw [z_stepR_bad hbad]; exact ⟨rfl, ⟨_, _, _, _, _, _, rfl⟩⟩) dX1_step_46
          · refine ww_iload_n (pc := 26) hX dX1_step_26 3 rfl ?_
            refine ww_iconst (pc := 27) (v := nI 2) hX dX1_step_27 (by decide) ?_
            refine ww_icmp_gt (pc := 28) (tgt := 45) hX dX1_step_28 (by decide) (fun c6 => ?_) (fun c6 => ?_)
            · have hbad : ¬ z_sok (nI tt) (nI kk) n := by
                rintro ⟨_, kk', -, h3, -, h4, h5, -⟩
                obtain rfl := (nI_eq (by omega) (by omega)).mp h4
                obtain ⟨i, hi, rfl⟩ := h5 c4
                exact absurd ((nI_ltI (by decide) (by omega)).mp c6) (by omega)
              refine ww_iconst (pc := 45) (v := -1) hX dX1_step_45 (by decide) ?_
              exact hret _ _ _ _ (rfl) (by rw [z_stepR_bad hbad]; exact ⟨rfl, ⟨_, _, _, _, _, _, rfl⟩⟩) dX1_step_46
            · exact J31 (fun _ => z_ix_of (z_ix_t c5 c6))
set_option maxHeartbeats 4000000 in
set_option maxRecDepth 100000 in
/-- drop -/
theorem mm_drop (t : Int32) (hok : pOk P) : MI l D cB cI yX1_drop cX1_drop 2 (some .int) 1 21 [.ref (ad 0), .int t] (mW ad cI P tn tu st va pt ho) (fun r_ w_ => r_ = (z_dropR P t).1 ∧ mOK ad cI (z_dropR P t).2 w_) := by
  refine MI.of (by decide) (Nat.le_of_ble_eq_true rfl) ?_
  intro X eL eD hX hret
  subst eL; subst eD
  have hX : Fx X cX1_drop RX1 2 1 21 cB cI := hX
  show ww X (mW ad cI P tn tu st va pt ho) [(0, .ref (ad 0)), (1, .int t)] 0 []
  refine ww_aload_n (pc := 0) hX dX1_drop_0 0 rfl ?_
  refine ww_iload_n (pc := 1) hX dX1_drop_1 1 rfl ?_
  refine ww_callI (pc := 2) (n := 1) (rest := []) hX (mm_thread t) (lw_V q240 q242 qs10 q22 q243) (by decide +kernel) rfl ⟨by decide, by decide⟩ 0 1 rfl rfl rfl (Nat.le_of_ble_eq_true rfl) dX1_drop_2 (fun r_ w_ hq_ => ?_)
  obtain ⟨rfl, rfl⟩ := hq_
  refine ww_if_eqB (pc := 5) (tgt := 17) hX dX1_drop_5 (by decide) (fun c1 => ?_) (fun c1 => ?_)
  · refine ww_iconst (pc := 17) (v := -1) hX dX1_drop_17 (by decide) ?_
    exact hret _ _ _ _ (rfl) (by rw [z_dropR, if_neg (fun q => by rw [c1] at q; cases q.1)]; exact ⟨rfl, ⟨_, _, _, _, _, _, rfl⟩⟩) dX1_drop_18
  · obtain ⟨tt, ht, rfl⟩ := z_ix_of c1
    have hs := hok.1 tt
    have ec : (nI tt).toNatClampNeg = tt := nI_clamp (by omega)
    refine ww_aload_n (pc := 8) hX dX1_drop_8 0 rfl ?_
    refine mg_size (pc := 9) hX dX1_drop_9 ?_
    refine ww_iload_n (pc := 12) hX dX1_drop_12 1 rfl ?_
    refine ml_size (pc := 13) hX (by omega) dX1_drop_13 ?_
    refine ww_if_neN (pc := 14) (tgt := 19) hX (by omega) dX1_drop_14 (by decide) (fun c2 => ?_) (fun c2 => ?_)
    · refine ww_aload_n (pc := 19) hX dX1_drop_19 0 rfl ?_
      refine mg_size (pc := 20) hX dX1_drop_20 ?_
      refine ww_iload_n (pc := 23) hX dX1_drop_23 1 rfl ?_
      refine ww_dup2 (pc := 24) hX dX1_drop_24 rfl rfl ?_
      refine ml_size (pc := 25) hX (by omega) dX1_drop_25 ?_
      refine ww_iconst (pc := 26) (v := nI 1) hX dX1_drop_26 (by decide) ?_
      refine ww_isubN (pc := 27) hX (by omega) dX1_drop_27 ?_
      refine ms_size (pc := 28) hX (by omega) dX1_drop_28 ?_
      refine ww_aload_n (pc := 29) hX dX1_drop_29 0 rfl ?_
      refine mg_size (pc := 30) hX dX1_drop_30 ?_
      refine ww_iload_n (pc := 33) hX dX1_drop_33 1 rfl ?_
      refine ml_size (pc := 34) hX (by omega) dX1_drop_34 ?_
      show ww X (mW ad cI (va_up (pS P) tt (((pS P) tt) - 1), pK P, pN P, pV P, pA P) tn tu st va pt ho) [(0, .ref (ad 0)), (1, .int (nI tt))] 35 [.int (nI ((va_up (pS P) tt (((pS P) tt) - 1)) tt))]
      rw [va_up_self]
      exact hret _ _ _ _ (rfl) (by rw [z_dropR, ec, if_pos ⟨c1, c2⟩]; exact ⟨rfl, ⟨_, _, _, _, _, _, rfl⟩⟩) dX1_drop_35
    · refine ww_iconst (pc := 17) (v := -1) hX dX1_drop_17 (by decide) ?_
      exact hret _ _ _ _ (rfl) (by rw [z_dropR, ec, if_neg (fun q => q.2 c2)]; exact ⟨rfl, ⟨_, _, _, _, _, _, rfl⟩⟩) dX1_drop_18
theorem pB_V (P : Pg) (x : Nat) (v : Int32) (hx : x < 3) : va_up (pB P) x v = pB (pS P, pK P, pN P, va_up (pV P) x v, pA P) := by
  funext i
  by_cases h : i = x
  · subst h
    simp only [va_up_self, pB, if_pos hx]
    exact (va_up_self (pV P) i v).symm
  · rw [va_up_ne _ _ h]
    by_cases hi : i < 3
    · simp only [pB, if_pos hi]
      exact (va_up_ne (pV P) v h).symm
    · simp only [pB, if_neg hi]
theorem pB_A (P : Pg) (x : Nat) (v : Int32) : va_up (pB P) (3 + x) v = pB (pS P, pK P, pN P, pV P, va_up (pA P) x v) := by
  funext i
  by_cases h : i = 3 + x
  · subst h
    simp only [va_up_self, pB, if_neg (show ¬ 3 + x < 3 by omega), show 3 + x - 3 = x by omega]
    exact (va_up_self (pA P) x v).symm
  · rw [va_up_ne _ _ h]
    by_cases hi : i < 3
    · simp only [pB, if_pos hi]
    · simp only [pB, if_neg hi]
      exact (va_up_ne (pA P) v (show i - 3 ≠ x by omega)).symm
section BG
variable {X : Cx} {cc : ByteArray} {nL fr lo : Nat} {cB cI : ClassId} {lv : List (Nat × Value)} {pc : Nat} {rest : List Value} {a : Nat} {x : Int32} {ad : Nat → Nat} {P P' : Pg} {tn : Nat} {tu st : Nat → Nat} {va : Nat → Int32} {pt : Nat → Nat} {ho : Nat → Int32}
theorem ms_begins (hX : Fx X cc RX1 nL fr lo cB cI) (h : a < 6) (hp : (pS P', pK P', pN P') = (pS P, pK P, pN P)) (he : va_up (pB P) a x = pB P') (hd : decode cc pc = .ok (.iastore, 1)) (k : ww X (mW ad cI P' tn tu st va pt ho) lv (pc + 1) rest) : ww X (mW ad cI P tn tu st va pt ho) lv pc (.int x :: .int (nI a) :: .ref (ad 4) :: rest) := by
  obtain ⟨s1, k1, n1, v1, a1⟩ := P
  obtain ⟨s2, k2, n2, v2, a2⟩ := P'
  simp only [Prod.mk.injEq] at hp
  obtain ⟨rfl, rfl, rfl⟩ := hp
  refine ww_iast (w' := mW ad cI (s2, k2, n2, v2, a2) tn tu st va pt ho) hX 4 rfl h (by decide) ?_ hd k
  rw [he]
  rfl
end BG
set_option maxHeartbeats 4000000 in
set_option maxRecDepth 100000 in
/-- begin -/
theorem mm_begin (what x v : Int32) : MI l D cB cI yX1_begin cX1_begin 4 (some .boolean) 0 0 [.ref (ad 0), .int what, .int x, .int v] (mW ad cI P tn tu st va pt ho) (fun r_ w_ => r_ = bI (z_begR P what x v).1 ∧ mOK ad cI (z_begR P what x v).2 w_) := by
  refine MI.of (by decide) (Nat.le_of_ble_eq_true rfl) ?_
  intro X eL eD hX hret
  subst eL; subst eD
  have hX : Fx X cX1_begin RX1 4 0 0 cB cI := hX
  show ww X (mW ad cI P tn tu st va pt ho) [(0, .ref (ad 0)), (1, .int what), (2, .int x), (3, .int v)] 0 []
  have J9 : (what = nI 0 ∨ what = nI 1) → ww X (mW ad cI P tn tu st va pt ho) [(0, .ref (ad 0)), (1, .int what), (2, .int x), (3, .int v)] 9 [] := by
    intro hw
    refine ww_iload_n (pc := 9) hX dX1_begin_9 2 rfl ?_
    refine ww_if_lt (pc := 10) (tgt := 18) hX dX1_begin_10 (by decide) (fun c1 => ?_) (fun c1 => ?_)
    · refine ww_iconst (pc := 18) (v := bI false) hX dX1_begin_18 (by first | decide | rfl) ?_
      exact hret _ _ _ _ (nb_b _) (by rw [z_begR, if_neg (fun q => by rw [z_ix_f1 c1] at q; cases q.1)]; exact ⟨rfl, ⟨_, _, _, _, _, _, rfl⟩⟩) dX1_begin_19
    · refine ww_iload_n (pc := 13) hX dX1_begin_13 2 rfl ?_
      refine ww_iconst (pc := 14) (v := nI 2) hX dX1_begin_14 (by decide) ?_
      refine ww_icmp_le (pc := 15) (tgt := 20) hX dX1_begin_15 (by decide) (fun c2 => ?_) (fun c2 => ?_)
      · have hix := z_ix_t c1 (Int32.not_lt.mpr c2)
        obtain ⟨xx, hx, rfl⟩ := z_ix_of hix
        have ec : (nI xx).toNatClampNeg = xx := nI_clamp (by omega)
        rcases hw with rfl | rfl
        · refine ww_aload_n (pc := 20) hX dX1_begin_20 0 rfl ?_
          refine mg_begins (pc := 21) hX dX1_begin_21 ?_
          refine ww_iconst (pc := 24) (v := nI 3) hX dX1_begin_24 (by decide) ?_
          refine ww_iload_n (pc := 25) hX dX1_begin_25 1 rfl ?_
          refine ww_imulN (pc := 26) hX dX1_begin_26 ?_
          refine ww_iload_n (pc := 27) hX dX1_begin_27 2 rfl ?_
          refine ww_iaddN (pc := 28) hX dX1_begin_28 ?_
          refine ww_iload_n (pc := 29) hX dX1_begin_29 3 rfl ?_
          rw [show 3 * 0 + xx = xx by omega]
          refine ms_begins (pc := 30) (P' := (pS P, pK P, pN P, va_up (pV P) xx v, pA P)) hX (by omega) rfl (pB_V P xx v hx) dX1_begin_30 ?_
          refine ww_iconst (pc := 31) (v := bI true) hX dX1_begin_31 (by first | decide | rfl) ?_
          exact hret _ _ _ _ (nb_b _) (by rw [z_begR, ec, if_pos ⟨hix, Or.inl rfl⟩, if_pos rfl]; exact ⟨rfl, ⟨_, _, _, _, _, _, rfl⟩⟩) dX1_begin_32
        · refine ww_aload_n (pc := 20) hX dX1_begin_20 0 rfl ?_
          refine mg_begins (pc := 21) hX dX1_begin_21 ?_
          refine ww_iconst (pc := 24) (v := nI 3) hX dX1_begin_24 (by decide) ?_
          refine ww_iload_n (pc := 25) hX dX1_begin_25 1 rfl ?_
          refine ww_imulN (pc := 26) hX dX1_begin_26 ?_
          refine ww_iload_n (pc := 27) hX dX1_begin_27 2 rfl ?_
          refine ww_iaddN (pc := 28) hX dX1_begin_28 ?_
          refine ww_iload_n (pc := 29) hX dX1_begin_29 3 rfl ?_
          rw [show 3 * 1 + xx = 3 + xx by omega]
          refine ms_begins (pc := 30) (P' := (pS P, pK P, pN P, pV P, va_up (pA P) xx v)) hX (by omega) rfl (pB_A P xx v) dX1_begin_30 ?_
          refine ww_iconst (pc := 31) (v := bI true) hX dX1_begin_31 (by first | decide | rfl) ?_
          exact hret _ _ _ _ (nb_b _) (by rw [z_begR, ec, if_pos ⟨hix, Or.inr rfl⟩, if_neg (by decide)]; exact ⟨rfl, ⟨_, _, _, _, _, _, rfl⟩⟩) dX1_begin_32
      · refine ww_iconst (pc := 18) (v := bI false) hX dX1_begin_18 (by first | decide | rfl) ?_
        exact hret _ _ _ _ (nb_b _) (by rw [z_begR, if_neg (fun q => by rw [z_ix_f2 (Int32.not_le.mp c2)] at q; cases q.1)]; exact ⟨rfl, ⟨_, _, _, _, _, _, rfl⟩⟩) dX1_begin_19
  refine ww_iload_n (pc := 0) hX dX1_begin_0 1 rfl ?_
  refine ww_if_eq (pc := 1) (tgt := 9) hX dX1_begin_1 (by decide) (fun c1 => ?_) (fun c1 => ?_)
  · exact J9 (Or.inl c1)
  · refine ww_iload_n (pc := 4) hX dX1_begin_4 1 rfl ?_
    refine ww_iconst (pc := 5) (v := nI 1) hX dX1_begin_5 (by decide) ?_
    refine ww_icmp_ne (pc := 6) (tgt := 18) hX dX1_begin_6 (by decide) (fun c2 => ?_) (fun c2 => ?_)
    · refine ww_iconst (pc := 18) (v := bI false) hX dX1_begin_18 (by first | decide | rfl) ?_
      exact hret _ _ _ _ (nb_b _) (by rw [z_begR, if_neg (fun q => q.2.elim c1 c2)]; exact ⟨rfl, ⟨_, _, _, _, _, _, rfl⟩⟩) dX1_begin_19
    · exact J9 (Or.inr c2)
set_option maxHeartbeats 4000000 in
set_option maxRecDepth 100000 in
/-- length -/
theorem mm_length (t : Int32) : MI l D cB cI yX1_length cX1_length 2 (some .int) 1 21 [.ref (ad 0), .int t] (mW ad cI P tn tu st va pt ho) (fun r_ w_ => r_ = z_lenR P t ∧ mOK ad cI P w_) := by
  refine MI.of (by decide) (Nat.le_of_ble_eq_true rfl) ?_
  intro X eL eD hX hret
  subst eL; subst eD
  have hX : Fx X cX1_length RX1 2 1 21 cB cI := hX
  show ww X (mW ad cI P tn tu st va pt ho) [(0, .ref (ad 0)), (1, .int t)] 0 []
  refine ww_aload_n (pc := 0) hX dX1_length_0 0 rfl ?_
  refine ww_iload_n (pc := 1) hX dX1_length_1 1 rfl ?_
  refine ww_callI (pc := 2) (n := 1) (rest := []) hX (mm_thread t) (lw_V q240 q242 qs10 q22 q243) (by decide +kernel) rfl ⟨by decide, by decide⟩ 0 1 rfl rfl rfl (Nat.le_of_ble_eq_true rfl) dX1_length_2 (fun r_ w_ hq_ => ?_)
  obtain ⟨rfl, rfl⟩ := hq_
  refine ww_if_eqB (pc := 5) (tgt := 17) hX dX1_length_5 (by decide) (fun c1 => ?_) (fun c1 => ?_)
  · refine ww_iconst (pc := 17) (v := -1) hX dX1_length_17 (by decide) ?_
    exact hret _ _ _ _ (rfl) (⟨by rw [z_lenR, if_neg (by rw [c1]; decide)], ⟨_, _, _, _, _, _, rfl⟩⟩) dX1_length_18
  · obtain ⟨tt, ht, rfl⟩ := z_ix_of c1
    have ec : (nI tt).toNatClampNeg = tt := nI_clamp (by omega)
    refine ww_aload_n (pc := 8) hX dX1_length_8 0 rfl ?_
    refine mg_size (pc := 9) hX dX1_length_9 ?_
    refine ww_iload_n (pc := 12) hX dX1_length_12 1 rfl ?_
    refine ml_size (pc := 13) hX (by omega) dX1_length_13 ?_
    refine ww_goto (pc := 14) (tgt := 18) hX dX1_length_14 (by decide) ?_
    exact hret _ _ _ _ (rfl) (⟨by rw [z_lenR, ec, if_pos c1], ⟨_, _, _, _, _, _, rfl⟩⟩) dX1_length_18
set_option maxHeartbeats 4000000 in
set_option maxRecDepth 100000 in
/-- touch -/
theorem mm_touch (i j : Nat) (hok : pOk P) (hi : i < 12) (hj : j < 12) : MI l D cB cI yX1_touch cX1_touch 6 (some .boolean) 0 0 [.ref (ad 0), .int (nI i), .int (nI j)] (mW ad cI P tn tu st va pt ho) (fun r_ w_ => r_ = bI (z_tch P i j) ∧ w_ = mW ad cI P tn tu st va pt ho) := by
  refine MI.of (by decide) (Nat.le_of_ble_eq_true rfl) ?_
  intro X eL eD hX hret
  subst eL; subst eD
  have hX : Fx X cX1_touch RX1 6 0 0 cB cI := hX
  show ww X (mW ad cI P tn tu st va pt ho) [(0, .ref (ad 0)), (1, .int (nI i)), (2, .int (nI j))] 0 []
  have hki := (hok.2 i).1
  have hkj := (hok.2 j).1
  refine ww_aload_n (pc := 0) hX dX1_touch_0 0 rfl ?_
  refine mg_kinds (pc := 1) hX dX1_touch_1 ?_
  refine ww_iload_n (pc := 4) hX dX1_touch_4 1 rfl ?_
  refine ml_kinds (pc := 5) hX (by omega) dX1_touch_5 ?_
  refine ww_istore_n (pc := 6) (lv' := [(0, .ref (ad 0)), (1, .int (nI i)), (2, .int (nI j)), (3, .int (nI ((pK P) i)))]) hX dX1_touch_6 (by decide) [1, 2, 3, 0] rfl ?_
  refine ww_aload_n (pc := 7) hX dX1_touch_7 0 rfl ?_
  refine mg_kinds (pc := 8) hX dX1_touch_8 ?_
  refine ww_iload_n (pc := 11) hX dX1_touch_11 2 rfl ?_
  refine ml_kinds (pc := 12) hX (by omega) dX1_touch_12 ?_
  refine ww_istore (pc := 13) (lv' := [(0, .ref (ad 0)), (1, .int (nI i)), (2, .int (nI j)), (3, .int (nI ((pK P) i))), (4, .int (nI ((pK P) j)))]) hX dX1_touch_13 (by decide) [1, 2, 3, 4, 0] rfl ?_
  have J40 : ∀ v_ : Int32, v_ = (bI (decide (pK P i ≤ 2 ∧ pK P j ≤ 2 ∧ ¬ (pK P i = 0 ∧ pK P j = 0)))) → ww X (mW ad cI P tn tu st va pt ho) [(0, .ref (ad 0)), (1, .int (nI i)), (2, .int (nI j)), (3, .int (nI ((pK P) i))), (4, .int (nI ((pK P) j)))] 40 [.int v_] := by
    rintro _ rfl
    refine ww_istore (pc := 40) (lv' := [(0, .ref (ad 0)), (1, .int (nI i)), (2, .int (nI j)), (3, .int (nI ((pK P) i))), (4, .int (nI ((pK P) j))), (5, .int (bI (decide (pK P i ≤ 2 ∧ pK P j ≤ 2 ∧ ¬ (pK P i = 0 ∧ pK P j = 0)))))]) hX dX1_touch_40 (by decide) [1, 2, 3, 4, 5, 0] rfl ?_
    refine ww_aload_n (pc := 42) hX dX1_touch_42 0 rfl ?_
    refine mg_numbers (pc := 43) hX dX1_touch_43 ?_
    refine ww_iload_n (pc := 46) hX dX1_touch_46 1 rfl ?_
    refine ml_numbers (pc := 47) hX (by omega) dX1_touch_47 ?_
    refine ww_aload_n (pc := 48) hX dX1_touch_48 0 rfl ?_
    refine mg_numbers (pc := 49) hX dX1_touch_49 ?_
    refine ww_iload_n (pc := 52) hX dX1_touch_52 2 rfl ?_
    refine ml_numbers (pc := 53) hX (by omega) dX1_touch_53 ?_
    refine ww_icmp_ne (pc := 54) (tgt := 77) hX dX1_touch_54 (by decide) (fun c1 => ?_) (fun c1 => ?_)
    · refine ww_iconst (pc := 77) (v := bI false) hX dX1_touch_77 (by first | decide | rfl) ?_
      exact hret _ _ _ _ (nb_b _) (⟨congrArg bI (decide_eq_false (fun q => c1 q.1)).symm, rfl⟩) dX1_touch_78
    · refine ww_iload (pc := 57) hX dX1_touch_57 5 rfl ?_
      refine ww_if_neB (pc := 59) (tgt := 73) hX dX1_touch_59 (by decide) (fun c2 => ?_) (fun c2 => ?_)
      · refine ww_iconst (pc := 73) (v := bI true) hX dX1_touch_73 (by first | decide | rfl) ?_
        refine ww_goto (pc := 74) (tgt := 78) hX dX1_touch_74 (by decide) ?_
        exact hret _ _ _ _ (nb_b _) (⟨congrArg bI (decide_eq_true (⟨c1, Or.inl (of_decide_eq_true c2)⟩)).symm, rfl⟩) dX1_touch_78
      · have c2 := of_decide_eq_false c2
        refine ww_iload_n (pc := 62) hX dX1_touch_62 3 rfl ?_
        refine ww_iconst (pc := 63) (v := nI 4) hX dX1_touch_63 (by decide) ?_
        refine ww_icmp_ltN (pc := 64) (tgt := 77) hX (by omega) (by omega) dX1_touch_64 (by decide) (fun c3 => ?_) (fun c3 => ?_)
        · refine ww_iconst (pc := 77) (v := bI false) hX dX1_touch_77 (by first | decide | rfl) ?_
          exact hret _ _ _ _ (nb_b _) (⟨congrArg bI (decide_eq_false (fun q => by have q2 := q.2; omega)).symm, rfl⟩) dX1_touch_78
        · refine ww_iload (pc := 67) hX dX1_touch_67 4 rfl ?_
          refine ww_iconst (pc := 69) (v := nI 4) hX dX1_touch_69 (by decide) ?_
          refine ww_icmp_ltN (pc := 70) (tgt := 77) hX (by omega) (by omega) dX1_touch_70 (by decide) (fun c4 => ?_) (fun c4 => ?_)
          · refine ww_iconst (pc := 77) (v := bI false) hX dX1_touch_77 (by first | decide | rfl) ?_
            exact hret _ _ _ _ (nb_b _) (⟨congrArg bI (decide_eq_false (fun q => by have q2 := q.2; omega)).symm, rfl⟩) dX1_touch_78
          · refine ww_iconst (pc := 73) (v := bI true) hX dX1_touch_73 (by first | decide | rfl) ?_
            refine ww_goto (pc := 74) (tgt := 78) hX dX1_touch_74 (by decide) ?_
            exact hret _ _ _ _ (nb_b _) (⟨congrArg bI (decide_eq_true (⟨c1, Or.inr ⟨c3, c4⟩⟩)).symm, rfl⟩) dX1_touch_78
  refine ww_iload_n (pc := 15) hX dX1_touch_15 3 rfl ?_
  refine ww_iconst (pc := 16) (v := nI 2) hX dX1_touch_16 (by decide) ?_
  refine ww_icmp_gtN (pc := 17) (tgt := 39) hX (by omega) (by omega) dX1_touch_17 (by decide) (fun d1 => ?_) (fun d1 => ?_)
  · refine ww_iconst (pc := 39) (v := bI false) hX dX1_touch_39 (by first | decide | rfl) ?_
    exact J40 _ (congrArg bI (decide_eq_false (by omega)).symm)
  · refine ww_iload (pc := 20) hX dX1_touch_20 4 rfl ?_
    refine ww_iconst (pc := 22) (v := nI 2) hX dX1_touch_22 (by decide) ?_
    refine ww_icmp_gtN (pc := 23) (tgt := 39) hX (by omega) (by omega) dX1_touch_23 (by decide) (fun d2 => ?_) (fun d2 => ?_)
    · refine ww_iconst (pc := 39) (v := bI false) hX dX1_touch_39 (by first | decide | rfl) ?_
      exact J40 _ (congrArg bI (decide_eq_false (by omega)).symm)
    · refine ww_iload_n (pc := 26) hX dX1_touch_26 3 rfl ?_
      refine ww_if_neN (pc := 27) (tgt := 35) hX (by omega) dX1_touch_27 (by decide) (fun d3 => ?_) (fun d3 => ?_)
      · refine ww_iconst (pc := 35) (v := bI true) hX dX1_touch_35 (by first | decide | rfl) ?_
        refine ww_goto (pc := 36) (tgt := 40) hX dX1_touch_36 (by decide) ?_
        exact J40 _ (congrArg bI (decide_eq_true (by omega)).symm)
      · refine ww_iload (pc := 30) hX dX1_touch_30 4 rfl ?_
        refine ww_if_eqN (pc := 32) (tgt := 39) hX (by omega) dX1_touch_32 (by decide) (fun d4 => ?_) (fun d4 => ?_)
        · refine ww_iconst (pc := 39) (v := bI false) hX dX1_touch_39 (by first | decide | rfl) ?_
          exact J40 _ (congrArg bI (decide_eq_false (by omega)).symm)
        · refine ww_iconst (pc := 35) (v := bI true) hX dX1_touch_35 (by first | decide | rfl) ?_
          refine ww_goto (pc := 36) (tgt := 40) hX dX1_touch_36 (by decide) ?_
          exact J40 _ (congrArg bI (decide_eq_true (by omega)).symm)
end MA
end
section
section MB
variable {l : Launch} {D : va_G} {cB cI : ClassId} {ad : Nat → Nat} {P : Pg} {tn : Nat} {tu st : Nat → Nat} {va : Nat → Int32} {pt : Nat → Nat} {ho : Nat → Int32}
theorem nI_and1 {j : Nat} (h : j < 2) : nI j &&& nI 1 = nI j := by
  have : ∀ j, j < 2 → nI j &&& nI 1 = nI j := by decide
  exact this j h
theorem z_can_4 {P : Pg} {a : Nat → Nat} {t l : Nat} (h1 : a t < pS P t) (h4 : pK P (t * 4 + a t) = 4) (hn : pN P (t * 4 + a t) = nI l) : z_can P a t = decide (¬ 0 ≤ z_hld P a l) := by
  rw [show decide (¬ 0 ≤ z_hld P a l) = decide (z_hold P 0 (nI l) (a 0) = false ∧ z_hold P 1 (nI l) (a 1) = false ∧ z_hold P 2 (nI l) (a 2) = false) from decide_eq_decide.mpr z_hld_neg]
  unfold z_can
  rw [decide_eq_true h1, show decide (pK P (t * 4 + a t) ≠ 4) = false from decide_eq_false (fun q => q h4), hn]
  cases z_hold P 0 (nI l) (a 0) <;> cases z_hold P 1 (nI l) (a 1) <;> cases z_hold P 2 (nI l) (a 2) <;> rfl
set_option maxHeartbeats 4000000 in
set_option maxRecDepth 100000 in
/-- can -/
theorem mm_can (g : Zs) (t : Nat) (hok : pOk P) (ht : t < 3) (hg : z_mst P g va pt ho) (hgt : g.1 t ≤ 4) : MI l D cB cI yX1_can cX1_can 3 (some .boolean) 0 0 [.ref (ad 0), .int (nI t)] (mW ad cI P tn tu st va pt ho) (fun r_ w_ => r_ = bI (z_can P g.1 t) ∧ w_ = mW ad cI P tn tu st va pt ho) := by
  refine MI.of (by decide) (Nat.le_of_ble_eq_true rfl) ?_
  intro X eL eD hX hret
  subst eL; subst eD
  have hX : Fx X cX1_can RX1 3 0 0 cB cI := hX
  show ww X (mW ad cI P tn tu st va pt ho) [(0, .ref (ad 0)), (1, .int (nI t))] 0 []
  have hpt : pt t = g.1 t := (hg.1 t ht).2.2
  have hs := hok.1 t
  have hk := (hok.2 (t * 4 + g.1 t)).1
  refine ww_aload_n (pc := 0) hX dX1_can_0 0 rfl ?_
  refine mg_at (pc := 1) hX dX1_can_1 ?_
  refine ww_iload_n (pc := 4) hX dX1_can_4 1 rfl ?_
  refine ml_at (pc := 5) hX (by omega) dX1_can_5 ?_
  rw [hpt]
  refine ww_aload_n (pc := 6) hX dX1_can_6 0 rfl ?_
  refine mg_size (pc := 7) hX dX1_can_7 ?_
  refine ww_iload_n (pc := 10) hX dX1_can_10 1 rfl ?_
  refine ml_size (pc := 11) hX (by omega) dX1_can_11 ?_
  refine ww_icmp_ltN (pc := 12) (tgt := 17) hX (by omega) (by omega) dX1_can_12 (by decide) (fun c1 => ?_) (fun c1 => ?_)
  · refine ww_iconst (pc := 17) (v := nI 4) hX dX1_can_17 (by decide) ?_
    refine ww_iload_n (pc := 18) hX dX1_can_18 1 rfl ?_
    refine ww_imulN (pc := 19) hX dX1_can_19 ?_
    refine ww_aload_n (pc := 20) hX dX1_can_20 0 rfl ?_
    refine mg_at (pc := 21) hX dX1_can_21 ?_
    refine ww_iload_n (pc := 24) hX dX1_can_24 1 rfl ?_
    refine ml_at (pc := 25) hX (by omega) dX1_can_25 ?_
    refine ww_iaddN (pc := 26) hX dX1_can_26 ?_
    rw [show 4 * t + pt t = t * 4 + g.1 t by rw [hpt]; omega]
    refine ww_istore_n (pc := 27) (lv' := [(0, .ref (ad 0)), (1, .int (nI t)), (2, .int (nI ((t * 4) + (g.1 t))))]) hX dX1_can_27 (by decide) [1, 2, 0] rfl ?_
    refine ww_aload_n (pc := 28) hX dX1_can_28 0 rfl ?_
    refine mg_kinds (pc := 29) hX dX1_can_29 ?_
    refine ww_iload_n (pc := 32) hX dX1_can_32 2 rfl ?_
    refine ml_kinds (pc := 33) hX (by omega) dX1_can_33 ?_
    refine ww_iconst (pc := 34) (v := nI 4) hX dX1_can_34 (by decide) ?_
    refine ww_icmp_neN (pc := 35) (tgt := 54) hX (by omega) (by omega) dX1_can_35 (by decide) (fun c2 => ?_) (fun c2 => ?_)
    · refine ww_iconst (pc := 54) (v := bI true) hX dX1_can_54 (by first | decide | rfl) ?_
      refine ww_goto (pc := 55) (tgt := 59) hX dX1_can_55 (by decide) ?_
      exact hret _ _ _ _ (nb_b _) (⟨congrArg bI (Eq.symm (by rw [z_can, decide_eq_true c1, decide_eq_true c2]; rfl)), rfl⟩) dX1_can_59
    · obtain ⟨l, hl, en⟩ := (hok.2 ((t * 4) + (g.1 t))).2.2 (by omega)
      refine ww_aload_n (pc := 38) hX dX1_can_38 0 rfl ?_
      refine mg_holder (pc := 39) hX dX1_can_39 ?_
      refine ww_aload_n (pc := 42) hX dX1_can_42 0 rfl ?_
      refine mg_numbers (pc := 43) hX dX1_can_43 ?_
      refine ww_iload_n (pc := 46) hX dX1_can_46 2 rfl ?_
      refine ml_numbers (pc := 47) hX (by omega) dX1_can_47 ?_
      rw [en]
      refine ww_iconst (pc := 48) (v := nI 1) hX dX1_can_48 (by decide) ?_
      refine ww_iand (pc := 49) hX dX1_can_49 ?_
      rw [nI_and1 hl]
      refine ml_holder (pc := 50) hX (by omega) dX1_can_50 ?_
      rw [hg.2 l hl]
      refine ww_if_ge (pc := 51) (tgt := 58) hX dX1_can_51 (by decide) (fun c3 => ?_) (fun c3 => ?_)
      · refine ww_iconst (pc := 58) (v := bI false) hX dX1_can_58 (by first | decide | rfl) ?_
        exact hret _ _ _ _ (nb_b _) (⟨congrArg bI (Eq.symm (by rw [z_can_4 c1 c2 en]; exact decide_eq_false (fun h => h c3))), rfl⟩) dX1_can_59
      · refine ww_iconst (pc := 54) (v := bI true) hX dX1_can_54 (by first | decide | rfl) ?_
        refine ww_goto (pc := 55) (tgt := 59) hX dX1_can_55 (by decide) ?_
        exact hret _ _ _ _ (nb_b _) (⟨congrArg bI (Eq.symm (by rw [z_can_4 c1 c2 en]; exact decide_eq_true c3)), rfl⟩) dX1_can_59
  · refine ww_iconst (pc := 15) (v := bI false) hX dX1_can_15 (by first | decide | rfl) ?_
    exact hret _ _ _ _ (nb_b _) (⟨congrArg bI (Eq.symm (by rw [z_can, decide_eq_false (Nat.not_lt.mpr c1)]; rfl)), rfl⟩) dX1_can_16
theorem z_mv_var {P : Pg} {g : Zs} {t j : Nat} {va : Nat → Int32} (ht : t < 3) (hj : j < 3) (hk : pK P (t * 4 + g.1 t) ≤ 2) (ej : pN P (t * 4 + g.1 t) = nI j) (h : ∀ i, i < 3 → va i = g.2.1 i ∧ va (3 + i) = g.2.2 i) :
    ∀ i, i < 3 → va_up (va_up va (3 + t) (if pK P (t * 4 + g.1 t) = 1 then va (3 + t) else va j)) j (if pK P (t * 4 + g.1 t) = 0 then va j else va (3 + t)) i = (z_stp P t g).2.1 i ∧ va_up (va_up va (3 + t) (if pK P (t * 4 + g.1 t) = 1 then va (3 + t) else va j)) j (if pK P (t * 4 + g.1 t) = 0 then va j else va (3 + t)) (3 + i) = (z_stp P t g).2.2 i := by
  intro i hi
  have ec : (pN P (t * 4 + g.1 t)).toNatClampNeg = j := by rw [ej]; exact nI_clamp (by omega)
  have e1 : (z_stp P t g).2.1 = if pK P (t * 4 + g.1 t) = 1 ∨ pK P (t * 4 + g.1 t) = 2 then va_up g.2.1 j (g.2.2 t) else g.2.1 := by unfold z_stp; rw [ec]
  have e2 : (z_stp P t g).2.2 = if pK P (t * 4 + g.1 t) = 0 ∨ pK P (t * 4 + g.1 t) = 2 then va_up g.2.2 t (g.2.1 j) else g.2.2 := by unfold z_stp; rw [ec]; exact if_neg (by omega)
  rw [e1, e2, (h t ht).2, (h j hj).1]
  have hne : 3 + i ≠ j := by omega
  constructor
  · by_cases hij : i = j
    · subst hij
      rw [va_up_self]
      by_cases h0 : pK P (t * 4 + g.1 t) = 0
      · rw [if_pos h0, if_neg (by omega)]
      · rw [if_neg h0, if_pos (by omega), va_up_self]
    · rw [va_up_ne _ _ hij, va_up_ne _ _ (by omega), (h i hi).1]
      split
      · rw [va_up_ne _ _ hij]
      · rfl
  · rw [va_up_ne _ _ hne]
    by_cases hit : i = t
    · subst hit
      rw [va_up_self]
      by_cases h1 : pK P (i * 4 + g.1 i) = 1
      · rw [if_pos h1, if_neg (by omega)]
      · rw [if_neg h1, if_pos (by omega), va_up_self]
    · rw [va_up_ne _ _ (by omega), (h i hi).2]
      split
      · rw [va_up_ne _ _ hit]
      · rfl
theorem z_mv_plus {P : Pg} {g : Zs} {t : Nat} {va : Nat → Int32} (ht : t < 3) (hk : pK P (t * 4 + g.1 t) = 3) (h : ∀ i, i < 3 → va i = g.2.1 i ∧ va (3 + i) = g.2.2 i) :
    ∀ i, i < 3 → va_up va (3 + t) (va (3 + t) + pN P (t * 4 + g.1 t)) i = (z_stp P t g).2.1 i ∧ va_up va (3 + t) (va (3 + t) + pN P (t * 4 + g.1 t)) (3 + i) = (z_stp P t g).2.2 i := by
  intro i hi
  have e1 : (z_stp P t g).2.1 = g.2.1 := by unfold z_stp; exact if_neg (by omega)
  have e2 : (z_stp P t g).2.2 = va_up g.2.2 t (g.2.2 t + pN P (t * 4 + g.1 t)) := by unfold z_stp; exact if_pos hk
  rw [e1, e2, (h t ht).2]
  refine ⟨by rw [va_up_ne _ _ (by omega)]; exact (h i hi).1, ?_⟩
  by_cases hit : i = t
  · subst hit; rw [va_up_self, va_up_self]
  · rw [va_up_ne _ _ (by omega), va_up_ne _ _ hit]; exact (h i hi).2
theorem z_mv_lock {P : Pg} {g : Zs} {t : Nat} {va : Nat → Int32} (hk : 4 ≤ pK P (t * 4 + g.1 t)) (h : ∀ i, i < 3 → va i = g.2.1 i ∧ va (3 + i) = g.2.2 i) : ∀ i, i < 3 → va i = (z_stp P t g).2.1 i ∧ va (3 + i) = (z_stp P t g).2.2 i := by
  intro i hi
  have e1 : (z_stp P t g).2.1 = g.2.1 := by unfold z_stp; exact if_neg (by omega)
  have e2 : (z_stp P t g).2.2 = g.2.2 := by unfold z_stp; exact (if_neg (by omega)).trans (if_neg (by omega))
  rw [e1, e2]
  exact h i hi
set_option maxHeartbeats 4000000 in
set_option maxRecDepth 100000 in
/-- carryOut -/
theorem mm_carryOut (g : Zs) (t : Nat) (hok : pOk P) (ht : t < 3) (hg : z_mst P g va pt ho) (hc : z_can P g.1 t = true) (hm : z_mux P g.1) : MV l D cB cI yX1_carryOut cX1_carryOut 7 0 0 [.ref (ad 0), .int (nI t)] (mW ad cI P tn tu st va pt ho) (fun w_ => ∃ (va' : Nat → Int32) (pt' : Nat → Nat) (ho' : Nat → Int32), w_ = mW ad cI P tn tu st va' pt' ho' ∧ z_mst P (z_stp P t g) va' pt' ho') := by
  refine MV.of (by decide) (Nat.le_of_ble_eq_true rfl) ?_
  intro X eL eD hX hret
  subst eL; subst eD
  have hX : Fx X cX1_carryOut RX1 7 0 0 cB cI := hX
  show ww X (mW ad cI P tn tu st va pt ho) [(0, .ref (ad 0)), (1, .int (nI t))] 0 []
  have hpt : pt t = g.1 t := (hg.1 t ht).2.2
  have hs := hok.1 t
  have hlt := z_can_lt hc
  have hk := (hok.2 ((t * 4) + (g.1 t))).1
  have hv : ∀ i, i < 3 → va i = g.2.1 i ∧ va (3 + i) = g.2.2 i := fun i hi => ⟨(hg.1 i hi).1, (hg.1 i hi).2.1⟩
  have J153 : ∀ v2 h2 : Nat → Int32, (∀ i, i < 3 → v2 i = (z_stp P t g).2.1 i ∧ v2 (3 + i) = (z_stp P t g).2.2 i) → (∀ l, l < 2 → h2 l = z_hld P (va_up g.1 t (g.1 t + 1)) l) → ww X (mW ad cI P tn tu st v2 pt h2) [(0, .ref (ad 0)), (1, .int (nI t))] 153 [] := by
    intro v2 h2 hv2 hh2
    refine ww_aload_n (pc := 153) hX dX1_carryOut_153 0 rfl ?_
    refine mg_at (pc := 154) hX dX1_carryOut_154 ?_
    refine ww_iload_n (pc := 157) hX dX1_carryOut_157 1 rfl ?_
    refine ww_dup2 (pc := 158) hX dX1_carryOut_158 rfl rfl ?_
    refine ml_at (pc := 159) hX (by omega) dX1_carryOut_159 ?_
    refine ww_iconst (pc := 160) (v := nI 1) hX dX1_carryOut_160 (by decide) ?_
    refine ww_iaddN (pc := 161) hX dX1_carryOut_161 ?_
    refine ms_at (pc := 162) hX (by omega) dX1_carryOut_162 ?_
    exact hret _ _ _ (⟨_, _, _, rfl, fun i hi => ⟨(hv2 i hi).1, (hv2 i hi).2, by
      show va_up pt t (pt t + 1) i = va_up g.1 t (g.1 t + 1) i
      by_cases hit : i = t
      · subst hit; rw [va_up_self, va_up_self, hpt]
      · rw [va_up_ne _ _ hit, va_up_ne _ _ hit]; exact (hg.1 i hi).2.2⟩, hh2⟩) dX1_carryOut_163
  refine ww_iconst (pc := 0) (v := nI 4) hX dX1_carryOut_0 (by decide) ?_
  refine ww_iload_n (pc := 1) hX dX1_carryOut_1 1 rfl ?_
  refine ww_imulN (pc := 2) hX dX1_carryOut_2 ?_
  refine ww_aload_n (pc := 3) hX dX1_carryOut_3 0 rfl ?_
  refine mg_at (pc := 4) hX dX1_carryOut_4 ?_
  refine ww_iload_n (pc := 7) hX dX1_carryOut_7 1 rfl ?_
  refine ml_at (pc := 8) hX (by omega) dX1_carryOut_8 ?_
  refine ww_iaddN (pc := 9) hX dX1_carryOut_9 ?_
  rw [show 4 * t + pt t = t * 4 + g.1 t by rw [hpt]; omega]
  refine ww_istore_n (pc := 10) (lv' := [(0, .ref (ad 0)), (1, .int (nI t)), (2, .int (nI ((t * 4) + (g.1 t))))]) hX dX1_carryOut_10 (by decide) [1, 2, 0] rfl ?_
  refine ww_aload_n (pc := 11) hX dX1_carryOut_11 0 rfl ?_
  refine mg_kinds (pc := 12) hX dX1_carryOut_12 ?_
  refine ww_iload_n (pc := 15) hX dX1_carryOut_15 2 rfl ?_
  refine ml_kinds (pc := 16) hX (by omega) dX1_carryOut_16 ?_
  refine ww_istore_n (pc := 17) (lv' := [(0, .ref (ad 0)), (1, .int (nI t)), (2, .int (nI ((t * 4) + (g.1 t)))), (3, .int (nI ((pK P) ((t * 4) + (g.1 t)))))]) hX dX1_carryOut_17 (by decide) [1, 2, 3, 0] rfl ?_
  refine ww_aload_n (pc := 18) hX dX1_carryOut_18 0 rfl ?_
  refine mg_numbers (pc := 19) hX dX1_carryOut_19 ?_
  refine ww_iload_n (pc := 22) hX dX1_carryOut_22 2 rfl ?_
  refine ml_numbers (pc := 23) hX (by omega) dX1_carryOut_23 ?_
  refine ww_istore (pc := 24) (lv' := [(0, .ref (ad 0)), (1, .int (nI t)), (2, .int (nI ((t * 4) + (g.1 t)))), (3, .int (nI ((pK P) ((t * 4) + (g.1 t))))), (4, .int ((pN P) ((t * 4) + (g.1 t))))]) hX dX1_carryOut_24 (by decide) [1, 2, 3, 4, 0] rfl ?_
  refine ww_aload_n (pc := 26) hX dX1_carryOut_26 0 rfl ?_
  refine mg_values (pc := 27) hX dX1_carryOut_27 ?_
  refine ww_iconst (pc := 30) (v := nI 3) hX dX1_carryOut_30 (by decide) ?_
  refine ww_iload_n (pc := 31) hX dX1_carryOut_31 1 rfl ?_
  refine ww_iaddN (pc := 32) hX dX1_carryOut_32 ?_
  refine ml_values (pc := 33) hX (by omega) dX1_carryOut_33 ?_
  refine ww_istore (pc := 34) (lv' := [(0, .ref (ad 0)), (1, .int (nI t)), (2, .int (nI ((t * 4) + (g.1 t)))), (3, .int (nI ((pK P) ((t * 4) + (g.1 t))))), (4, .int ((pN P) ((t * 4) + (g.1 t)))), (5, .int (va (3 + t)))]) hX dX1_carryOut_34 (by decide) [1, 2, 3, 4, 5, 0] rfl ?_
  refine ww_iload_n (pc := 36) hX dX1_carryOut_36 3 rfl ?_
  refine ww_iconst (pc := 37) (v := nI 2) hX dX1_carryOut_37 (by decide) ?_
  refine ww_icmp_gtN (pc := 38) (tgt := 91) hX (by omega) (by omega) dX1_carryOut_38 (by decide) (fun c1 => ?_) (fun c1 => ?_)
  · refine ww_iload_n (pc := 91) hX dX1_carryOut_91 3 rfl ?_
    refine ww_iconst (pc := 92) (v := nI 3) hX dX1_carryOut_92 (by decide) ?_
    refine ww_icmp_neN (pc := 93) (tgt := 112) hX (by omega) (by omega) dX1_carryOut_93 (by decide) (fun c2 => ?_) (fun c2 => ?_)
    · obtain ⟨l, hl, en⟩ := (hok.2 ((t * 4) + (g.1 t))).2.2 (by omega)
      rw [show (Value.int (pN P (t * 4 + g.1 t))) = .int (nI l) by rw [en]]
      refine ww_iload_n (pc := 112) hX dX1_carryOut_112 3 rfl ?_
      refine ww_iconst (pc := 113) (v := nI 4) hX dX1_carryOut_113 (by decide) ?_
      refine ww_icmp_neN (pc := 114) (tgt := 130) hX (by omega) (by omega) dX1_carryOut_114 (by decide) (fun c3 => ?_) (fun c3 => ?_)
      · refine ww_aload_n (pc := 130) hX dX1_carryOut_130 0 rfl ?_
        refine mg_holder (pc := 131) hX dX1_carryOut_131 ?_
        refine ww_iload (pc := 134) hX dX1_carryOut_134 4 rfl ?_
        refine ww_iconst (pc := 136) (v := nI 1) hX dX1_carryOut_136 (by decide) ?_
        refine ww_iand (pc := 137) hX dX1_carryOut_137 ?_
        rw [nI_and1 hl]
        refine ml_holder (pc := 138) hX (by omega) dX1_carryOut_138 ?_
        rw [hg.2 l hl]
        refine ww_iload_n (pc := 139) hX dX1_carryOut_139 1 rfl ?_
        refine ww_icmp_ne (pc := 140) (tgt := 153) hX dX1_carryOut_140 (by decide) (fun c4 => ?_) (fun c4 => ?_)
        · refine ww_sub [0, 1] rfl (lv := [(0, .ref (ad 0)), (1, .int (nI t))]) ?_
          exact J153 va ho (z_mv_lock (by omega) hv) (fun m hm2 => by
            rw [hg.2 m hm2]
            by_cases hml : m = l
            · subst hml; rw [z_hld_give hm ht (by omega) en, if_neg c4]
            · rw [z_hld_keep (fun q => hml ((nI_eq (by omega) (by omega)).mp (q.1.symm.trans en)))])
        · refine ww_aload_n (pc := 143) hX dX1_carryOut_143 0 rfl ?_
          refine mg_holder (pc := 144) hX dX1_carryOut_144 ?_
          refine ww_iload (pc := 147) hX dX1_carryOut_147 4 rfl ?_
          refine ww_iconst (pc := 149) (v := nI 1) hX dX1_carryOut_149 (by decide) ?_
          refine ww_iand (pc := 150) hX dX1_carryOut_150 ?_
          rw [nI_and1 hl]
          refine ww_iconst (pc := 151) (v := -1) hX dX1_carryOut_151 (by decide) ?_
          refine ms_holder (pc := 152) hX (by omega) dX1_carryOut_152 ?_
          refine ww_sub [0, 1] rfl (lv := [(0, .ref (ad 0)), (1, .int (nI t))]) ?_
          exact J153 va _ (z_mv_lock (by omega) hv) (fun m hm2 => by
            by_cases hml : m = l
            · subst hml; rw [va_up_self, z_hld_give hm ht (by omega) en, if_pos c4]
            · rw [va_up_ne _ _ hml, hg.2 m hm2, z_hld_keep (fun q => hml ((nI_eq (by omega) (by omega)).mp (q.1.symm.trans en)))])
      · refine ww_aload_n (pc := 117) hX dX1_carryOut_117 0 rfl ?_
        refine mg_holder (pc := 118) hX dX1_carryOut_118 ?_
        refine ww_iload (pc := 121) hX dX1_carryOut_121 4 rfl ?_
        refine ww_iconst (pc := 123) (v := nI 1) hX dX1_carryOut_123 (by decide) ?_
        refine ww_iand (pc := 124) hX dX1_carryOut_124 ?_
        rw [nI_and1 hl]
        refine ww_iload_n (pc := 125) hX dX1_carryOut_125 1 rfl ?_
        refine ms_holder (pc := 126) hX (by omega) dX1_carryOut_126 ?_
        refine ww_goto (pc := 127) (tgt := 153) hX dX1_carryOut_127 (by decide) ?_
        refine ww_sub [0, 1] rfl (lv := [(0, .ref (ad 0)), (1, .int (nI t))]) ?_
        exact J153 va _ (z_mv_lock (by omega) hv) (fun m hm2 => by
          by_cases hml : m = l
          · subst hml; rw [va_up_self, z_hld_take hm hc ht c3 en]
          · rw [va_up_ne _ _ hml, hg.2 m hm2, z_hld_keep (fun q => hml ((nI_eq (by omega) (by omega)).mp (q.1.symm.trans en)))])
    · refine ww_aload_n (pc := 96) hX dX1_carryOut_96 0 rfl ?_
      refine mg_values (pc := 97) hX dX1_carryOut_97 ?_
      refine ww_iconst (pc := 100) (v := nI 3) hX dX1_carryOut_100 (by decide) ?_
      refine ww_iload_n (pc := 101) hX dX1_carryOut_101 1 rfl ?_
      refine ww_iaddN (pc := 102) hX dX1_carryOut_102 ?_
      refine ww_iload (pc := 103) hX dX1_carryOut_103 5 rfl ?_
      refine ww_iload (pc := 105) hX dX1_carryOut_105 4 rfl ?_
      refine ww_iadd (pc := 107) hX dX1_carryOut_107 ?_
      refine ms_values (pc := 108) hX (by omega) dX1_carryOut_108 ?_
      refine ww_goto (pc := 109) (tgt := 153) hX dX1_carryOut_109 (by decide) ?_
      refine ww_sub [0, 1] rfl (lv := [(0, .ref (ad 0)), (1, .int (nI t))]) ?_
      exact J153 _ ho (z_mv_plus ht c2 hv) (fun m hm2 => by rw [hg.2 m hm2, z_hld_keep (fun q => by omega)])
  · obtain ⟨j, hj, ej⟩ := (hok.2 ((t * 4) + (g.1 t))).2.1 c1
    rw [show (Value.int (pN P (t * 4 + g.1 t))) = .int (nI j) by rw [ej]]
    refine ww_aload_n (pc := 41) hX dX1_carryOut_41 0 rfl ?_
    refine mg_values (pc := 42) hX dX1_carryOut_42 ?_
    refine ww_iload (pc := 45) hX dX1_carryOut_45 4 rfl ?_
    refine ml_values (pc := 47) hX (by omega) dX1_carryOut_47 ?_
    refine ww_istore (pc := 48) (lv' := [(0, .ref (ad 0)), (1, .int (nI t)), (2, .int (nI ((t * 4) + (g.1 t)))), (3, .int (nI ((pK P) ((t * 4) + (g.1 t))))), (4, .int (nI j)), (5, .int (va (3 + t))), (6, .int (va j))]) hX dX1_carryOut_48 (by decide) [1, 2, 3, 4, 5, 6, 0] rfl ?_
    refine ww_aload_n (pc := 50) hX dX1_carryOut_50 0 rfl ?_
    refine mg_values (pc := 51) hX dX1_carryOut_51 ?_
    refine ww_iconst (pc := 54) (v := nI 3) hX dX1_carryOut_54 (by decide) ?_
    refine ww_iload_n (pc := 55) hX dX1_carryOut_55 1 rfl ?_
    refine ww_iaddN (pc := 56) hX dX1_carryOut_56 ?_
    have J69 : ∀ v_ : Int32, v_ = (if pK P ((t * 4) + (g.1 t)) = 1 then va (3 + t) else va j) → ww X (mW ad cI P tn tu st va pt ho) [(0, .ref (ad 0)), (1, .int (nI t)), (2, .int (nI ((t * 4) + (g.1 t)))), (3, .int (nI ((pK P) ((t * 4) + (g.1 t))))), (4, .int (nI j)), (5, .int (va (3 + t))), (6, .int (va j))] 69 [.int v_, .int (nI (3 + t)), .ref (ad 7)] := by
      rintro _ rfl
      refine ms_values (pc := 69) hX (by omega) dX1_carryOut_69 ?_
      refine ww_aload_n (pc := 70) hX dX1_carryOut_70 0 rfl ?_
      refine mg_values (pc := 71) hX dX1_carryOut_71 ?_
      refine ww_iload (pc := 74) hX dX1_carryOut_74 4 rfl ?_
      have J87 : ∀ v_ : Int32, v_ = (if pK P ((t * 4) + (g.1 t)) = 0 then va j else va (3 + t)) → ww X (mW ad cI P tn tu st (va_up va (3 + t) (if pK P ((t * 4) + (g.1 t)) = 1 then va (3 + t) else va j)) pt ho) [(0, .ref (ad 0)), (1, .int (nI t)), (2, .int (nI ((t * 4) + (g.1 t)))), (3, .int (nI ((pK P) ((t * 4) + (g.1 t))))), (4, .int (nI j)), (5, .int (va (3 + t))), (6, .int (va j))] 87 [.int v_, .int (nI j), .ref (ad 7)] := by
        rintro _ rfl
        refine ms_values (pc := 87) hX (by omega) dX1_carryOut_87 ?_
        refine ww_goto (pc := 88) (tgt := 153) hX dX1_carryOut_88 (by decide) ?_
        refine ww_sub [0, 1] rfl (lv := [(0, .ref (ad 0)), (1, .int (nI t))]) ?_
        exact J153 _ ho (z_mv_var ht hj c1 ej hv) (fun m hm2 => by rw [hg.2 m hm2, z_hld_keep (fun q => by omega)])
      refine ww_iload_n (pc := 76) hX dX1_carryOut_76 3 rfl ?_
      refine ww_if_neN (pc := 77) (tgt := 85) hX (by omega) dX1_carryOut_77 (by decide) (fun d1 => ?_) (fun d1 => ?_)
      · refine ww_iload (pc := 85) hX dX1_carryOut_85 5 rfl ?_
        exact J87 _ ((if_neg d1).symm)
      · refine ww_iload (pc := 80) hX dX1_carryOut_80 6 rfl ?_
        refine ww_goto (pc := 82) (tgt := 87) hX dX1_carryOut_82 (by decide) ?_
        exact J87 _ ((if_pos d1).symm)
    refine ww_iload_n (pc := 57) hX dX1_carryOut_57 3 rfl ?_
    refine ww_iconst (pc := 58) (v := nI 1) hX dX1_carryOut_58 (by decide) ?_
    refine ww_icmp_neN (pc := 59) (tgt := 67) hX (by omega) (by omega) dX1_carryOut_59 (by decide) (fun d2 => ?_) (fun d2 => ?_)
    · refine ww_iload (pc := 67) hX dX1_carryOut_67 6 rfl ?_
      exact J69 _ ((if_neg d2).symm)
    · refine ww_iload (pc := 62) hX dX1_carryOut_62 5 rfl ?_
      refine ww_goto (pc := 64) (tgt := 69) hX dX1_carryOut_64 (by decide) ?_
      exact J69 _ ((if_pos d2).symm)
end MB
end
section
section MC
variable {l : Launch} {D : va_G} {cB cI : ClassId} {ad : Nat → Nat} {P : Pg} {tn : Nat} {tu st : Nat → Nat} {va : Nat → Int32} {pt : Nat → Nat} {ho : Nat → Int32}
theorem z_ext_ok {P : Pg} : ∀ (n : Nat) (g : Zs), z_vl P g (z_ext P n g)
  | 0, g => trivial
  | n + 1, g => by
    unfold z_ext
    cases h : z_fst (z_can P g.1) with
    | none => exact trivial
    | some t =>
      obtain ⟨h1, h2, -⟩ := z_fst_sp h
      exact ⟨h1, h2, z_ext_ok n (z_stp P t g)⟩
theorem z_ok_ext {P : Pg} {w : List Nat} (h : z_ok P w) (n : Nat) : z_ok P (w ++ z_ext P n (z_sta P w)) := z_vl_app.mpr ⟨h, z_ext_ok n _⟩
theorem z_getD_lo {w v : List Nat} {i : Nat} (h : i < w.length) : (w ++ v).getD i 0 = w.getD i 0 := by
  rw [List.getD_eq_getElem?_getD, List.getD_eq_getElem?_getD, List.getElem?_append_left h]
theorem z_getD_at {w : List Nat} {t : Nat} : (w ++ [t]).getD w.length 0 = t := by
  rw [List.getD_eq_getElem?_getD, List.getElem?_append_right (Nat.le_refl _), Nat.sub_self]
  rfl
theorem z_cell_lo {P : Pg} {w v : List Nat} {i : Nat} (h : i < w.length) : z_cell P (w ++ v) i = z_cell P w i := by
  unfold z_cell
  rw [z_getD_lo h, List.take_append_of_le_length (Nat.le_of_lt h)]
theorem z_cell_at {P : Pg} {w : List Nat} {t : Nat} : z_cell P (w ++ [t]) w.length = t * 4 + (z_sta P w).1 t := by
  unfold z_cell
  rw [z_getD_at, List.take_left]
theorem z_tur_pre {w v : List Nat} {tu : Nat → Nat} (h : z_tur (w ++ v) tu) : z_tur w tu := fun i hi => by
  rw [h i (by rw [List.length_append]; omega), z_getD_lo hi]
theorem z_tur_snoc {w : List Nat} {tu : Nat → Nat} {t : Nat} (h : z_tur w tu) : z_tur (w ++ [t]) (va_up tu w.length t) := by
  intro i hi
  rw [List.length_append] at hi
  by_cases hw : i = w.length
  · subst hw; rw [va_up_self, z_getD_at]
  · have hi2 : i < w.length := by simp at hi; omega
    rw [va_up_ne _ _ hw, z_getD_lo hi2]
    exact h i hi2
theorem z_agr_tur {P : Pg} {w : List Nat} {tu st : Nat → Nat} (h : z_agr P w tu st) : z_tur w tu := fun i hi => (h i hi).1
theorem z_agr_snoc {P : Pg} {w : List Nat} {tu st : Nat → Nat} {t : Nat} (h : z_agr P w tu st) : z_agr P (w ++ [t]) (va_up tu w.length t) (va_up st w.length (t * 4 + (z_sta P w).1 t)) := by
  intro i hi
  refine ⟨z_tur_snoc (z_agr_tur h) i hi, ?_⟩
  rw [List.length_append] at hi
  by_cases hw : i = w.length
  · subst hw; rw [va_up_self, z_cell_at]
  · have hi2 : i < w.length := by simp at hi; omega
    rw [va_up_ne _ _ hw, z_cell_lo hi2]
    exact (h i hi2).2
theorem z_mst_0 (P : Pg) {va : Nat → Int32} {pt : Nat → Nat} {ho : Nat → Int32} (h1 : ∀ i, i < 6 → va i = pB P i) (h2 : ∀ i, i < 3 → pt i = 0) (h3 : ∀ l, l < 2 → ho l = -1) : z_mst P (z_sta P []) va pt ho := by
  refine ⟨fun i hi => ⟨?_, ?_, h2 i hi⟩, fun l hl => ?_⟩
  · rw [h1 i (by omega)]
    show pB P i = c3V (pV P) i
    rw [pB, if_pos hi, c3V, if_pos hi]
  · rw [h1 (3 + i) (by omega)]
    show pB P (3 + i) = c3V (pA P) i
    rw [pB, if_neg (by omega), c3V, if_pos hi, show 3 + i - 3 = i by omega]
  · rw [h3 l hl, z_hld_none (fun s _ => rfl)]
/-- the object stands at a schedule -/
def mAt (ad : Nat → Nat) (cI : ClassId) (P : Pg) (w : List Nat) (W : va_W) : Prop := z_ok P w ∧ ∃ (tu st : Nat → Nat) (va : Nat → Int32) (pt : Nat → Nat) (ho : Nat → Int32), W = mW ad cI P w.length tu st va pt ho ∧ z_agr P w tu st
def z_npost (ad : Nat → Nat) (cI : ClassId) (P : Pg) (o : Option (List Nat)) (r : Int32) (W : va_W) : Prop := match o with
  | none => r = bI false ∧ mOK ad cI P W
  | some w => r = bI true ∧ mAt ad cI P w W
set_option maxHeartbeats 4000000 in
set_option maxRecDepth 100000 in
/-- replay: the first n turns from the beginning -/
theorem mm_replay (w : List Nat) (n : Nat) (hok : pOk P) (hw : z_ok P w) (hn : w.length = n) (htu : z_tur w tu) : MV l D cB cI yX1_replay cX1_replay 3 1 26 [.ref (ad 0), .int (nI n)] (mW ad cI P tn tu st va pt ho) (fun w_ => ∃ (st' : Nat → Nat) (va' : Nat → Int32) (pt' : Nat → Nat) (ho' : Nat → Int32), w_ = mW ad cI P tn tu st' va' pt' ho' ∧ (∀ i, i < w.length → st' i = z_cell P w i) ∧ (∀ i, w.length ≤ i → st' i = st i) ∧ z_mst P (z_sta P w) va' pt' ho') := by
  refine MV.of (by decide) (Nat.le_of_ble_eq_true rfl) ?_
  intro X eL eD hX hret
  subst eL; subst eD
  have hX : Fx X cX1_replay RX1 3 1 26 cB cI := hX
  show ww X (mW ad cI P tn tu st va pt ho) [(0, .ref (ad 0)), (1, .int (nI n))] 0 []
  have hlen := z_ok_len hok hw
  have loop3 : ∀ (m i : Nat) (s1 : Nat → Nat) (v1 : Nat → Int32) (p1 : Nat → Nat) (h1 : Nat → Int32), i + m = n → (∀ k, k < i → s1 k = z_cell P w k) → (∀ k, i ≤ k → s1 k = st k) → z_mst P (z_sta P (w.take i)) v1 p1 h1 → ww X (mW ad cI P tn tu s1 v1 p1 h1) [(0, .ref (ad 0)), (1, .int (nI n)), (2, .int (nI i))] 62 [] := by
    intro m
    induction m with
    | zero =>
      intro i s1 v1 p1 h1 hi hs1 hs2 hm
      obtain rfl : i = n := by omega
      refine ww_iload_n (pc := 62) hX dX1_replay_62 2 rfl ?_
      refine ww_iload_n (pc := 63) hX dX1_replay_63 1 rfl ?_
      refine ww_icmp_geN (pc := 64) (tgt := 109) hX (by omega) (by omega) dX1_replay_64 (by decide) (fun c1 => ?_) (fun c1 => ?_)
      · subst hn
        rw [List.take_length] at hm
        exact hret _ _ _ (⟨_, _, _, _, rfl, hs1, hs2, hm⟩) dX1_replay_109
      · exact absurd c1 (by omega)
    | succ m ih =>
      intro i s1 v1 p1 h1 hi hs1 hs2 hm
      obtain ⟨ho1, hx3, hcan, htk⟩ := z_ok_take hw (show i < w.length by omega)
      have htui := htu i (by omega)
      obtain ⟨x, hx⟩ : ∃ x, x = w.getD i 0 := ⟨_, rfl⟩
      rw [← hx] at htui hx3 hcan htk
      have hpx : p1 x = (z_sta P (w.take i)).1 x := (hm.1 x hx3).2.2
      refine ww_iload_n (pc := 62) hX dX1_replay_62 2 rfl ?_
      refine ww_iload_n (pc := 63) hX dX1_replay_63 1 rfl ?_
      refine ww_icmp_geN (pc := 64) (tgt := 109) hX (by omega) (by omega) dX1_replay_64 (by decide) (fun c1 => ?_) (fun c1 => ?_)
      · exact absurd c1 (by omega)
      · refine ww_aload_n (pc := 67) hX dX1_replay_67 0 rfl ?_
        refine mg_steps (pc := 68) hX dX1_replay_68 ?_
        refine ww_iload_n (pc := 71) hX dX1_replay_71 2 rfl ?_
        refine ww_iconst (pc := 72) (v := nI 4) hX dX1_replay_72 (by decide) ?_
        refine ww_aload_n (pc := 73) hX dX1_replay_73 0 rfl ?_
        refine mg_turn (pc := 74) hX dX1_replay_74 ?_
        refine ww_iload_n (pc := 77) hX dX1_replay_77 2 rfl ?_
        refine ml_turn (pc := 78) hX (by omega) dX1_replay_78 ?_
        rw [htui]
        refine ww_imulN (pc := 79) hX dX1_replay_79 ?_
        refine ww_aload_n (pc := 80) hX dX1_replay_80 0 rfl ?_
        refine mg_at (pc := 81) hX dX1_replay_81 ?_
        refine ww_aload_n (pc := 84) hX dX1_replay_84 0 rfl ?_
        refine mg_turn (pc := 85) hX dX1_replay_85 ?_
        refine ww_iload_n (pc := 88) hX dX1_replay_88 2 rfl ?_
        refine ml_turn (pc := 89) hX (by omega) dX1_replay_89 ?_
        rw [htui]
        refine ml_at (pc := 90) hX (by omega) dX1_replay_90 ?_
        refine ww_iaddN (pc := 91) hX dX1_replay_91 ?_
        refine ms_steps (pc := 92) hX (by omega) dX1_replay_92 ?_
        refine ww_aload_n (pc := 93) hX dX1_replay_93 0 rfl ?_
        refine ww_aload_n (pc := 94) hX dX1_replay_94 0 rfl ?_
        refine mg_turn (pc := 95) hX dX1_replay_95 ?_
        refine ww_iload_n (pc := 98) hX dX1_replay_98 2 rfl ?_
        refine ml_turn (pc := 99) hX (by omega) dX1_replay_99 ?_
        rw [htui]
        refine ww_callV (pc := 100) (n := 1) (rest := []) hX (mm_carryOut (z_sta P (w.take i)) x hok hx3 hm hcan (z_ok_in ho1).2) (lw_V q268 q270 qs13 q22 q271) (by decide +kernel) rfl ⟨by decide, by decide⟩ 0 1 rfl rfl rfl (Nat.le_of_ble_eq_true rfl) dX1_replay_100 (fun w_ hq_ => ?_)
        obtain ⟨v2, p2, h2, rfl, hm2⟩ := hq_
        refine ww_iincN (pc := 103) (lv' := [(0, .ref (ad 0)), (1, .int (nI n)), (2, .int (nI (i + 1)))]) hX dX1_replay_103 2 rfl (by decide) [1, 2, 0] rfl ?_
        refine ww_goto (pc := 106) (tgt := 62) hX dX1_replay_106 (by decide) ?_
        refine ih (i + 1) _ _ _ _ (by omega) (fun k hk => ?_) (fun k hk => ?_) (by rw [htk, z_sta_app]; exact hm2)
        · by_cases hki : k = i
          · subst hki; rw [va_up_self, z_cell, ← hx, hpx]; omega
          · rw [va_up_ne _ _ hki]; exact hs1 k (by omega)
        · rw [va_up_ne _ _ (by omega)]; exact hs2 k (by omega)
  have loop2 : ∀ m i : Nat, i + m = 3 → ww X (mW ad cI P tn tu st (z_iv (pB P) 6 va) (z_i0 i pt) ho) [(0, .ref (ad 0)), (1, .int (nI n)), (2, .int (nI i))] 28 [] := by
    intro m
    induction m with
    | zero =>
      intro i hi
      obtain rfl : i = 3 := by omega
      refine ww_iload_n (pc := 28) hX dX1_replay_28 2 rfl ?_
      refine ww_iconst (pc := 29) (v := nI 3) hX dX1_replay_29 (by decide) ?_
      refine ww_icmp_geN (pc := 30) (tgt := 46) hX (by omega) (by omega) dX1_replay_30 (by decide) (fun c1 => ?_) (fun c1 => ?_)
      · refine ww_aload_n (pc := 46) hX dX1_replay_46 0 rfl ?_
        refine mg_holder (pc := 47) hX dX1_replay_47 ?_
        refine ww_iconst (pc := 50) (v := nI 0) hX dX1_replay_50 (by decide) ?_
        refine ww_iconst (pc := 51) (v := -1) hX dX1_replay_51 (by decide) ?_
        refine ms_holder (pc := 52) hX (by omega) dX1_replay_52 ?_
        refine ww_aload_n (pc := 53) hX dX1_replay_53 0 rfl ?_
        refine mg_holder (pc := 54) hX dX1_replay_54 ?_
        refine ww_iconst (pc := 57) (v := nI 1) hX dX1_replay_57 (by decide) ?_
        refine ww_iconst (pc := 58) (v := -1) hX dX1_replay_58 (by decide) ?_
        refine ms_holder (pc := 59) hX (by omega) dX1_replay_59 ?_
        refine ww_iconst (pc := 60) (v := nI 0) hX dX1_replay_60 (by decide) ?_
        refine ww_istore_n (pc := 61) (lv' := [(0, .ref (ad 0)), (1, .int (nI n)), (2, .int (nI 0))]) hX dX1_replay_61 (by decide) [1, 2, 0] rfl ?_
        refine loop3 n 0 _ _ _ _ (by omega) (fun k hk => absurd hk (by omega)) (fun k _ => rfl) (z_mst_0 P (fun i hi => ?_) (fun i hi => ?_) (fun l hl => ?_))
        · rw [z_iv, if_pos hi]
        · rw [z_i0, if_pos hi]
        · rcases (show l = 0 ∨ l = 1 by omega) with rfl | rfl
          · rw [va_up_ne _ _ (by decide), va_up_self]
          · rw [va_up_self]
      · exact absurd c1 (by omega)
    | succ m ih =>
      intro i hi
      have ih_ := ih (i + 1) (by omega)
      refine ww_iload_n (pc := 28) hX dX1_replay_28 2 rfl ?_
      refine ww_iconst (pc := 29) (v := nI 3) hX dX1_replay_29 (by decide) ?_
      refine ww_icmp_geN (pc := 30) (tgt := 46) hX (by omega) (by omega) dX1_replay_30 (by decide) (fun c1 => ?_) (fun c1 => ?_)
      · exact absurd c1 (by omega)
      · refine ww_aload_n (pc := 33) hX dX1_replay_33 0 rfl ?_
        refine mg_at (pc := 34) hX dX1_replay_34 ?_
        refine ww_iload_n (pc := 37) hX dX1_replay_37 2 rfl ?_
        refine ww_iconst (pc := 38) (v := nI 0) hX dX1_replay_38 (by decide) ?_
        refine ms_at (pc := 39) hX (by omega) dX1_replay_39 ?_
        refine ww_iincN (pc := 40) (lv' := [(0, .ref (ad 0)), (1, .int (nI n)), (2, .int (nI (i + 1)))]) hX dX1_replay_40 2 rfl (by decide) [1, 2, 0] rfl ?_
        refine ww_goto (pc := 43) (tgt := 28) hX dX1_replay_43 (by decide) ?_
        rw [z_i0_up]
        exact ih_
  have loop1 : ∀ m i : Nat, i + m = 6 → ww X (mW ad cI P tn tu st (z_iv (pB P) i va) pt ho) [(0, .ref (ad 0)), (1, .int (nI n)), (2, .int (nI i))] 2 [] := by
    intro m
    induction m with
    | zero =>
      intro i hi
      obtain rfl : i = 6 := by omega
      refine ww_iload_n (pc := 2) hX dX1_replay_2 2 rfl ?_
      refine ww_bipush (pc := 3) (v := nI 6) hX dX1_replay_3 (by decide) ?_
      refine ww_icmp_geN (pc := 5) (tgt := 26) hX (by omega) (by omega) dX1_replay_5 (by decide) (fun c1 => ?_) (fun c1 => ?_)
      · refine ww_iconst (pc := 26) (v := nI 0) hX dX1_replay_26 (by decide) ?_
        refine ww_istore_n (pc := 27) (lv' := [(0, .ref (ad 0)), (1, .int (nI n)), (2, .int (nI 0))]) hX dX1_replay_27 (by decide) [1, 2, 0] rfl ?_
        have l0 := loop2 3 0 (by omega)
        rw [z_i0_0] at l0
        exact l0
      · exact absurd c1 (by omega)
    | succ m ih =>
      intro i hi
      have ih_ := ih (i + 1) (by omega)
      refine ww_iload_n (pc := 2) hX dX1_replay_2 2 rfl ?_
      refine ww_bipush (pc := 3) (v := nI 6) hX dX1_replay_3 (by decide) ?_
      refine ww_icmp_geN (pc := 5) (tgt := 26) hX (by omega) (by omega) dX1_replay_5 (by decide) (fun c1 => ?_) (fun c1 => ?_)
      · exact absurd c1 (by omega)
      · refine ww_aload_n (pc := 8) hX dX1_replay_8 0 rfl ?_
        refine mg_values (pc := 9) hX dX1_replay_9 ?_
        refine ww_iload_n (pc := 12) hX dX1_replay_12 2 rfl ?_
        refine ww_aload_n (pc := 13) hX dX1_replay_13 0 rfl ?_
        refine mg_begins (pc := 14) hX dX1_replay_14 ?_
        refine ww_iload_n (pc := 17) hX dX1_replay_17 2 rfl ?_
        refine ml_begins (pc := 18) hX (by omega) dX1_replay_18 ?_
        refine ms_values (pc := 19) hX (by omega) dX1_replay_19 ?_
        refine ww_iincN (pc := 20) (lv' := [(0, .ref (ad 0)), (1, .int (nI n)), (2, .int (nI (i + 1)))]) hX dX1_replay_20 2 rfl (by decide) [1, 2, 0] rfl ?_
        refine ww_goto (pc := 23) (tgt := 2) hX dX1_replay_23 (by decide) ?_
        rw [z_iv_up]
        exact ih_
  refine ww_iconst (pc := 0) (v := nI 0) hX dX1_replay_0 (by decide) ?_
  refine ww_istore_n (pc := 1) (lv' := [(0, .ref (ad 0)), (1, .int (nI n)), (2, .int (nI 0))]) hX dX1_replay_1 (by decide) [1, 2, 0] rfl ?_
  have l0 := loop1 6 0 (by omega)
  rw [z_iv_0] at l0
  exact l0
set_option maxHeartbeats 4000000 in
set_option maxRecDepth 100000 in
/-- extend: on with the least thread that can -/
theorem mm_extend (w : List Nat) (hok : pOk P) (hw : z_ok P w) (hn : w.length = tn) (hag : z_agr P w tu st) (hmst : z_mst P (z_sta P w) va pt ho) : MV l D cB cI yX1_extend cX1_extend 2 1 26 [.ref (ad 0)] (mW ad cI P tn tu st va pt ho) (fun w_ => ∃ (tu' st' : Nat → Nat) (va' : Nat → Int32) (pt' : Nat → Nat) (ho' : Nat → Int32), w_ = mW ad cI P ((w ++ z_ext P (12 - w.length) (z_sta P w)).length) tu' st' va' pt' ho' ∧ z_agr P (w ++ z_ext P (12 - w.length) (z_sta P w)) tu' st' ∧ z_mst P (z_sta P (w ++ z_ext P (12 - w.length) (z_sta P w))) va' pt' ho') := by
  refine MV.of (by decide) (Nat.le_of_ble_eq_true rfl) ?_
  intro X eL eD hX hret
  subst eL; subst eD
  have hX : Fx X cX1_extend RX1 2 1 26 cB cI := hX
  show ww X (mW ad cI P tn tu st va pt ho) [(0, .ref (ad 0))] 0 []
  obtain ⟨Z, hZ⟩ : ∃ Z, Z = (w ++ z_ext P (12 - w.length) (z_sta P w)) := ⟨_, rfl⟩
  rw [← hZ] at hret
  have loop : ∀ (m : Nat) (u : List Nat), z_ok P u → u.length + m = 12 → u ++ z_ext P m (z_sta P u) = Z → ∀ (j t : Nat), t + j = 3 → (∀ s, s < t → z_can P (z_sta P u).1 s = false) → ∀ (u1 s1 : Nat → Nat) (v1 : Nat → Int32) (p1 : Nat → Nat) (h1 : Nat → Int32), z_agr P u u1 s1 → z_mst P (z_sta P u) v1 p1 h1 → ww X (mW ad cI P u.length u1 s1 v1 p1 h1) [(0, .ref (ad 0)), (1, .int (nI t))] 2 [] := by
    intro m
    induction m with
    | zero =>
      intro u hu hl hz j t htj hs u1 s1 v1 p1 h1 ha hm
      have hz : u = Z := by rw [← hz]; exact (List.append_nil u).symm
      subst hz
      refine ww_iload_n (pc := 2) hX dX1_extend_2 1 rfl ?_
      refine ww_iconst (pc := 3) (v := nI 3) hX dX1_extend_3 (by decide) ?_
      refine ww_icmp_geN (pc := 4) (tgt := 79) hX (by omega) (by omega) dX1_extend_4 (by decide) (fun c1 => ?_) (fun c1 => ?_)
      · exact hret _ _ _ (⟨_, _, _, _, _, rfl, ha, hm⟩) dX1_extend_79
      · refine ww_aload_n (pc := 7) hX dX1_extend_7 0 rfl ?_
        refine mg_turns (pc := 8) hX dX1_extend_8 ?_
        refine ww_bipush (pc := 11) (v := nI 12) hX dX1_extend_11 (by decide) ?_
        refine ww_icmp_geN (pc := 13) (tgt := 79) hX (by omega) (by omega) dX1_extend_13 (by decide) (fun c2 => ?_) (fun c2 => ?_)
        · exact hret _ _ _ (⟨_, _, _, _, _, rfl, ha, hm⟩) dX1_extend_79
        · exact absurd c2 (by omega)
    | succ m ih =>
      intro u hu hl hz j
      have hin := (z_ok_in hu).1
      induction j with
      | zero =>
        intro t htj hs u1 s1 v1 p1 h1 ha hm
        obtain rfl : t = 3 := by omega
        have hz : u = Z := by rw [← hz, z_ext, z_fst_none hs]; exact (List.append_nil u).symm
        subst hz
        refine ww_iload_n (pc := 2) hX dX1_extend_2 1 rfl ?_
        refine ww_iconst (pc := 3) (v := nI 3) hX dX1_extend_3 (by decide) ?_
        refine ww_icmp_geN (pc := 4) (tgt := 79) hX (by omega) (by omega) dX1_extend_4 (by decide) (fun c1 => ?_) (fun c1 => ?_)
        · exact hret _ _ _ (⟨_, _, _, _, _, rfl, ha, hm⟩) dX1_extend_79
        · exact absurd c1 (by omega)
      | succ j ihj =>
        intro t htj hs u1 s1 v1 p1 h1 ha hm
        have ht3 : t < 3 := by omega
        have hgt := Nat.le_trans (hin.1 t ht3) (hok.1 t)
        have hpt : p1 t = (z_sta P u).1 t := (hm.1 t ht3).2.2
        refine ww_iload_n (pc := 2) hX dX1_extend_2 1 rfl ?_
        refine ww_iconst (pc := 3) (v := nI 3) hX dX1_extend_3 (by decide) ?_
        refine ww_icmp_geN (pc := 4) (tgt := 79) hX (by omega) (by omega) dX1_extend_4 (by decide) (fun c1 => ?_) (fun c1 => ?_)
        · exact absurd c1 (by omega)
        · refine ww_aload_n (pc := 7) hX dX1_extend_7 0 rfl ?_
          refine mg_turns (pc := 8) hX dX1_extend_8 ?_
          refine ww_bipush (pc := 11) (v := nI 12) hX dX1_extend_11 (by decide) ?_
          refine ww_icmp_geN (pc := 13) (tgt := 79) hX (by omega) (by omega) dX1_extend_13 (by decide) (fun c2 => ?_) (fun c2 => ?_)
          · exact absurd c2 (by omega)
          · refine ww_aload_n (pc := 16) hX dX1_extend_16 0 rfl ?_
            refine ww_iload_n (pc := 17) hX dX1_extend_17 1 rfl ?_
            refine ww_callI (pc := 18) (n := 1) (rest := []) hX (mm_can (z_sta P u) t hok ht3 hm hgt) (lw_V q276 q278 qs15 q22 q279) (by decide +kernel) rfl ⟨by decide, by decide⟩ 0 1 rfl rfl rfl (Nat.le_of_ble_eq_true rfl) dX1_extend_18 (fun r_ w_ hq_ => ?_)
            obtain ⟨rfl, rfl⟩ := hq_
            refine ww_if_eqB (pc := 21) (tgt := 73) hX dX1_extend_21 (by decide) (fun c3 => ?_) (fun c3 => ?_)
            · refine ww_iincN (pc := 73) (lv' := [(0, .ref (ad 0)), (1, .int (nI (t + 1)))]) hX dX1_extend_73 1 rfl (by decide) [1, 0] rfl ?_
              refine ww_goto (pc := 76) (tgt := 2) hX dX1_extend_76 (by decide) ?_
              refine ihj (t + 1) (by omega) (fun s hst => ?_) u1 s1 v1 p1 h1 ha hm
              by_cases hq : s = t
              · rw [hq]; exact c3
              · exact hs s (by omega)
            · have hu2 : z_ok P (u ++ [t]) := z_ok_snoc.mpr ⟨hu, ht3, c3⟩
              have hz2 : (u ++ [t]) ++ z_ext P m (z_sta P (u ++ [t])) = Z := by rw [← hz, z_ext, z_fst_some ht3 c3 hs, z_sta_app, List.append_assoc]; rfl
              refine ww_aload_n (pc := 24) hX dX1_extend_24 0 rfl ?_
              refine mg_turn (pc := 25) hX dX1_extend_25 ?_
              refine ww_aload_n (pc := 28) hX dX1_extend_28 0 rfl ?_
              refine mg_turns (pc := 29) hX dX1_extend_29 ?_
              refine ww_iload_n (pc := 32) hX dX1_extend_32 1 rfl ?_
              refine ms_turn (pc := 33) hX (by omega) dX1_extend_33 ?_
              refine ww_aload_n (pc := 34) hX dX1_extend_34 0 rfl ?_
              refine mg_steps (pc := 35) hX dX1_extend_35 ?_
              refine ww_aload_n (pc := 38) hX dX1_extend_38 0 rfl ?_
              refine mg_turns (pc := 39) hX dX1_extend_39 ?_
              refine ww_iconst (pc := 42) (v := nI 4) hX dX1_extend_42 (by decide) ?_
              refine ww_iload_n (pc := 43) hX dX1_extend_43 1 rfl ?_
              refine ww_imulN (pc := 44) hX dX1_extend_44 ?_
              refine ww_aload_n (pc := 45) hX dX1_extend_45 0 rfl ?_
              refine mg_at (pc := 46) hX dX1_extend_46 ?_
              refine ww_iload_n (pc := 49) hX dX1_extend_49 1 rfl ?_
              refine ml_at (pc := 50) hX (by omega) dX1_extend_50 ?_
              rw [hpt]
              refine ww_iaddN (pc := 51) hX dX1_extend_51 ?_
              refine ms_steps (pc := 52) hX (by omega) dX1_extend_52 ?_
              refine ww_aload_n (pc := 53) hX dX1_extend_53 0 rfl ?_
              refine ww_dup (pc := 54) hX dX1_extend_54 rfl ?_
              refine mg_turns (pc := 55) hX dX1_extend_55 ?_
              refine ww_iconst (pc := 58) (v := nI 1) hX dX1_extend_58 (by decide) ?_
              refine ww_iaddN (pc := 59) hX dX1_extend_59 ?_
              refine mp_turns (pc := 60) hX dX1_extend_60 ?_
              refine ww_aload_n (pc := 63) hX dX1_extend_63 0 rfl ?_
              refine ww_iload_n (pc := 64) hX dX1_extend_64 1 rfl ?_
              refine ww_callV (pc := 65) (n := 1) (rest := []) hX (mm_carryOut (z_sta P u) t hok ht3 hm c3 (z_ok_in hu).2) (lw_V q268 q270 qs13 q22 q271) (by decide +kernel) rfl ⟨by decide, by decide⟩ 0 1 rfl rfl rfl (Nat.le_of_ble_eq_true rfl) dX1_extend_65 (fun w_ hq_ => ?_)
              obtain ⟨v2, p2, h2, rfl, hm2⟩ := hq_
              refine ww_iconst (pc := 68) (v := nI 0) hX dX1_extend_68 (by decide) ?_
              refine ww_istore_n (pc := 69) (lv' := [(0, .ref (ad 0)), (1, .int (nI 0))]) hX dX1_extend_69 (by decide) [1, 0] rfl ?_
              refine ww_goto (pc := 70) (tgt := 2) hX dX1_extend_70 (by decide) ?_
              have hlen2 : (u ++ [t]).length = u.length + 1 := by simp
              have hfin := ih (u ++ [t]) hu2 (by omega) hz2 3 0 (by omega) (fun s hs0 => absurd hs0 (by omega)) _ _ v2 p2 h2 (z_agr_snoc ha) (by rw [z_sta_app]; exact hm2)
              rw [hlen2, Nat.mul_comm t 4] at hfin
              exact hfin
  refine ww_iconst (pc := 0) (v := nI 0) hX dX1_extend_0 (by decide) ?_
  refine ww_istore_n (pc := 1) (lv' := [(0, .ref (ad 0)), (1, .int (nI 0))]) hX dX1_extend_1 (by decide) [1, 0] rfl ?_
  have hlen := z_ok_len hok hw
  subst hn
  exact loop (12 - w.length) w hw (by omega) hZ.symm 3 0 (by omega) (fun s hs0 => absurd hs0 (by omega)) tu st va pt ho hag hmst
end MC
end
section
section MD
variable {l : Launch} {D : va_G} {cB cI : ClassId} {ad : Nat → Nat} {P : Pg} {tn : Nat} {tu st : Nat → Nat} {va : Nat → Int32} {pt : Nat → Nat} {ho : Nat → Int32}
set_option maxHeartbeats 4000000 in
set_option maxRecDepth 100000 in
/-- first -/
theorem mm_first (hok : pOk P) : MV l D cB cI yX1_first cX1_first 1 2 48 [.ref (ad 0)] (mW ad cI P tn tu st va pt ho) (fun w_ => mAt ad cI P (z_first P) w_) := by
  refine MV.of (by decide) (Nat.le_of_ble_eq_true rfl) ?_
  intro X eL eD hX hret
  subst eL; subst eD
  have hX : Fx X cX1_first RX1 1 2 48 cB cI := hX
  show ww X (mW ad cI P tn tu st va pt ho) [(0, .ref (ad 0))] 0 []
  refine ww_aload_n (pc := 0) hX dX1_first_0 0 rfl ?_
  refine ww_iconst (pc := 1) (v := nI 0) hX dX1_first_1 (by decide) ?_
  refine mp_turns (pc := 2) hX dX1_first_2 ?_
  refine ww_aload_n (pc := 5) hX dX1_first_5 0 rfl ?_
  refine ww_iconst (pc := 6) (v := nI 0) hX dX1_first_6 (by decide) ?_
  refine ww_callV (pc := 7) (n := 1) (rest := []) hX (mm_replay [] 0 hok trivial rfl (fun i hi => absurd hi (by simp))) (lw_V q264 q266 qs12 q22 q267) (by decide +kernel) rfl ⟨by decide, by decide⟩ 0 1 rfl rfl rfl (Nat.le_of_ble_eq_true rfl) dX1_first_7 (fun w_ hq_ => ?_)
  obtain ⟨s1, v1, p1, h1, rfl, -, -, hm⟩ := hq_
  refine ww_aload_n (pc := 10) hX dX1_first_10 0 rfl ?_
  refine ww_callV (pc := 11) (n := 0) (rest := []) hX (mm_extend [] hok trivial rfl (fun i hi => absurd hi (by simp)) hm) (lw_V q272 q274 qs14 q22 q275) (by decide +kernel) rfl ⟨by decide, by decide⟩ 0 1 rfl rfl rfl (Nat.le_of_ble_eq_true rfl) dX1_first_11 (fun w_ hq_ => ?_)
  obtain ⟨u2, s2, v2, p2, h2, rfl, ha, -⟩ := hq_
  exact hret _ _ _ (⟨z_ext_ok 12 (z_0 P), u2, s2, v2, p2, h2, rfl, ha⟩) dX1_first_14
set_option maxHeartbeats 4000000 in
set_option maxRecDepth 100000 in
/-- next: the next complete schedule, or none -/
theorem mm_next (w : List Nat) (hok : pOk P) (hw : z_ok P w) (hn : w.length = tn) (htu : z_tur w tu) : MI l D cB cI yX1_next cX1_next 3 (some .boolean) 2 48 [.ref (ad 0)] (mW ad cI P tn tu st va pt ho) (fun r_ w_ => z_npost ad cI P (z_nx P w) r_ w_) := by
  refine MI.of (by decide) (Nat.le_of_ble_eq_true rfl) ?_
  intro X eL eD hX hret
  subst eL; subst eD
  have hX : Fx X cX1_next RX1 3 2 48 cB cI := hX
  show ww X (mW ad cI P tn tu st va pt ho) [(0, .ref (ad 0))] 0 []
  obtain ⟨O, hO⟩ : ∃ O, O = z_nx P w := ⟨_, rfl⟩
  rw [← hO] at hret
  have loop : ∀ (r : List Nat), z_ok P r.reverse → z_nxr P r = O → ∀ (n1 : Nat) (u1 s1 : Nat → Nat) (v1 : Nat → Int32) (p1 : Nat → Nat) (h1 : Nat → Int32), z_tur r.reverse u1 → ww X (mW ad cI P n1 u1 s1 v1 p1 h1) [(0, .ref (ad 0)), (1, .int (lvI r.length))] 7 [] := by
    intro r
    induction r with
    | nil =>
      intro hr hz n1 u1 s1 v1 p1 h1 ht
      obtain rfl : O = none := hz.symm
      show ww X (mW ad cI P n1 u1 s1 v1 p1 h1) [(0, .ref (ad 0)), (1, .int (-1))] 7 []
      refine ww_iload_n (pc := 7) hX dX1_next_7 1 rfl ?_
      refine ww_if_lt (pc := 8) (tgt := 78) hX dX1_next_8 (by decide) (fun c1 => ?_) (fun c1 => ?_)
      · refine ww_iconst (pc := 78) (v := bI false) hX dX1_next_78 (by first | decide | rfl) ?_
        exact hret _ _ _ _ (nb_b _) (⟨rfl, ⟨_, _, _, _, _, _, rfl⟩⟩) dX1_next_79
      · exact absurd (show (-1 : Int32) < 0 by decide) c1
    | cons t0 r ih =>
      intro hr hz n1 u1 s1 v1 p1 h1 ht
      rw [List.reverse_cons] at hr ht
      obtain ⟨hr1, ht0, hct0⟩ := z_ok_snoc.mp hr
      have hin := (z_ok_in hr1).1
      have hlen := z_ok_len hok hr
      rw [List.length_append, List.length_reverse] at hlen
      simp at hlen
      have htd : u1 r.length = t0 := by
        have h := ht r.reverse.length (by simp)
        rw [z_getD_at, List.length_reverse] at h
        exact h
      show ww X (mW ad cI P n1 u1 s1 v1 p1 h1) [(0, .ref (ad 0)), (1, .int (nI r.length))] 7 []
      refine ww_iload_n (pc := 7) hX dX1_next_7 1 rfl ?_
      refine ww_if_ltN (pc := 8) hX (by omega) dX1_next_8 78 (by decide) ?_
      refine ww_aload_n (pc := 11) hX dX1_next_11 0 rfl ?_
      refine ww_iload_n (pc := 12) hX dX1_next_12 1 rfl ?_
      refine ww_callV (pc := 13) (n := 1) (rest := []) hX (mm_replay r.reverse r.length hok hr1 (by simp) (z_tur_pre ht)) (lw_V q264 q266 qs12 q22 q267) (by decide +kernel) rfl ⟨by decide, by decide⟩ 0 1 rfl rfl rfl (Nat.le_of_ble_eq_true rfl) dX1_next_13 (fun w_ hq_ => ?_)
      obtain ⟨s2, v2, p2, h2, rfl, hs2, -, hm⟩ := hq_
      refine ww_aload_n (pc := 16) hX dX1_next_16 0 rfl ?_
      refine mg_turn (pc := 17) hX dX1_next_17 ?_
      refine ww_iload_n (pc := 20) hX dX1_next_20 1 rfl ?_
      refine ml_turn (pc := 21) hX (by omega) dX1_next_21 ?_
      rw [htd]
      have inner : ∀ (m t : Nat), t + m = 3 → t0 < t → (∀ s, t0 < s → s < t → z_can P (z_sta P r.reverse).1 s = false) → ww X (mW ad cI P n1 u1 s2 v2 p2 h2) [(0, .ref (ad 0)), (1, .int (nI r.length)), (2, .int (nI t))] 25 [] := by
        intro m
        induction m with
        | zero =>
          intro t htm h0t hs
          obtain rfl : t = 3 := by omega
          refine ww_iload_n (pc := 25) hX dX1_next_25 2 rfl ?_
          refine ww_iconst (pc := 26) (v := nI 3) hX dX1_next_26 (by decide) ?_
          refine ww_icmp_geN (pc := 27) (tgt := 72) hX (by omega) (by omega) dX1_next_27 (by decide) (fun d1 => ?_) (fun d1 => ?_)
          · refine ww_iinc (pc := 72) (v := lvI r.length) (lv' := [(0, .ref (ad 0)), (1, .int (lvI r.length)), (2, .int (nI 3))]) hX dX1_next_72 1 rfl (lvI_dec _) (by decide) [1, 0, 2] rfl ?_
            refine ww_goto (pc := 75) (tgt := 7) hX dX1_next_75 (by decide) ?_
            refine ww_sub [0, 1] rfl (lv := [(0, .ref (ad 0)), (1, .int (lvI r.length))]) ?_
            refine ih hr1 ?_ _ _ _ _ _ _ (z_tur_pre ht)
            rw [← hz, z_nxr, z_gt, z_fst_none (fun s hs3 => ?_)]
            by_cases h : t0 < s
            · rw [hs s h hs3, Bool.and_false]
            · rw [decide_eq_false h, Bool.false_and]
          · exact absurd d1 (by omega)
        | succ m ihm =>
          intro t htm h0t hs
          have ht3 : t < 3 := by omega
          have hgt := Nat.le_trans (hin.1 t ht3) (hok.1 t)
          refine ww_iload_n (pc := 25) hX dX1_next_25 2 rfl ?_
          refine ww_iconst (pc := 26) (v := nI 3) hX dX1_next_26 (by decide) ?_
          refine ww_icmp_geN (pc := 27) (tgt := 72) hX (by omega) (by omega) dX1_next_27 (by decide) (fun d1 => ?_) (fun d1 => ?_)
          · exact absurd d1 (by omega)
          · refine ww_aload_n (pc := 30) hX dX1_next_30 0 rfl ?_
            refine ww_iload_n (pc := 31) hX dX1_next_31 2 rfl ?_
            refine ww_callI (pc := 32) (n := 1) (rest := []) hX (mm_can (z_sta P r.reverse) t hok ht3 hm hgt) (lw_V q276 q278 qs15 q22 q279) (by decide +kernel) rfl ⟨by decide, by decide⟩ 0 1 rfl rfl rfl (Nat.le_of_ble_eq_true rfl) dX1_next_32 (fun r_ w_ hq_ => ?_)
            obtain ⟨rfl, rfl⟩ := hq_
            refine ww_if_eqB (pc := 35) (tgt := 66) hX dX1_next_35 (by decide) (fun d2 => ?_) (fun d2 => ?_)
            · refine ww_iincN (pc := 66) (lv' := [(0, .ref (ad 0)), (1, .int (nI r.length)), (2, .int (nI (t + 1)))]) hX dX1_next_66 2 rfl (by decide) [1, 2, 0] rfl ?_
              refine ww_goto (pc := 69) (tgt := 25) hX dX1_next_69 (by decide) ?_
              refine ihm (t + 1) (by omega) (by omega) (fun s h1 h2 => ?_)
              by_cases hq : s = t
              · rw [hq]; exact d2
              · exact hs s h1 (by omega)
            · have hu2 : z_ok P (r.reverse ++ [t]) := z_ok_snoc.mpr ⟨hr1, ht3, d2⟩
              have hl2 : (r.reverse ++ [t]).length = r.length + 1 := by simp
              have htu2 : z_tur (r.reverse ++ [t]) (va_up u1 r.length t) := by
                have h := z_tur_snoc (t := t) (z_tur_pre ht)
                rw [List.length_reverse] at h
                exact h
              refine ww_aload_n (pc := 38) hX dX1_next_38 0 rfl ?_
              refine mg_turn (pc := 39) hX dX1_next_39 ?_
              refine ww_iload_n (pc := 42) hX dX1_next_42 1 rfl ?_
              refine ww_iload_n (pc := 43) hX dX1_next_43 2 rfl ?_
              refine ms_turn (pc := 44) hX (by omega) dX1_next_44 ?_
              refine ww_aload_n (pc := 45) hX dX1_next_45 0 rfl ?_
              refine ww_iload_n (pc := 46) hX dX1_next_46 1 rfl ?_
              refine ww_iconst (pc := 47) (v := nI 1) hX dX1_next_47 (by decide) ?_
              refine ww_iaddN (pc := 48) hX dX1_next_48 ?_
              refine mp_turns (pc := 49) hX dX1_next_49 ?_
              refine ww_aload_n (pc := 52) hX dX1_next_52 0 rfl ?_
              refine ww_aload_n (pc := 53) hX dX1_next_53 0 rfl ?_
              refine mg_turns (pc := 54) hX dX1_next_54 ?_
              refine ww_callV (pc := 57) (n := 1) (rest := []) hX (mm_replay (r.reverse ++ [t]) (r.length + 1) hok hu2 hl2 htu2) (lw_V q264 q266 qs12 q22 q267) (by decide +kernel) rfl ⟨by decide, by decide⟩ 0 1 rfl rfl rfl (Nat.le_of_ble_eq_true rfl) dX1_next_57 (fun w_ hq_ => ?_)
              obtain ⟨s3, v3, p3, h3, rfl, hs3, -, hm3⟩ := hq_
              refine ww_aload_n (pc := 60) hX dX1_next_60 0 rfl ?_
              refine ww_callV (pc := 61) (n := 0) (rest := []) hX (mm_extend (r.reverse ++ [t]) hok hu2 hl2 (fun i hi => ⟨htu2 i hi, hs3 i hi⟩) hm3) (lw_V q272 q274 qs14 q22 q275) (by decide +kernel) rfl ⟨by decide, by decide⟩ 0 1 rfl rfl rfl (Nat.le_of_ble_eq_true rfl) dX1_next_61 (fun w_ hq_ => ?_)
              obtain ⟨u4, s4, v4, p4, h4, rfl, ha4, -⟩ := hq_
              refine ww_iconst (pc := 64) (v := bI true) hX dX1_next_64 (by first | decide | rfl) ?_
              have hO2 : O = some ((r.reverse ++ [t]) ++ z_ext P (12 - (r.reverse ++ [t]).length) (z_sta P (r.reverse ++ [t]))) := by
                rw [← hz, z_nxr, z_gt, z_fst_some ht3 (by rw [d2, decide_eq_true h0t]; rfl) (fun s hst => ?_)]
                · rw [hl2, show 12 - (r.length + 1) = 11 - r.length by omega]
                · by_cases h : t0 < s
                  · rw [hs s h hst, Bool.and_false]
                  · rw [decide_eq_false h, Bool.false_and]
              rw [hO2] at hret
              exact hret _ _ _ _ (nb_b _) (⟨rfl, z_ok_ext hu2 _, u4, s4, v4, p4, h4, rfl, ha4⟩) dX1_next_65
      refine ww_iconst (pc := 22) (v := nI 1) hX dX1_next_22 (by decide) ?_
      refine ww_iaddN (pc := 23) hX dX1_next_23 ?_
      refine ww_istore_n (pc := 24) (lv' := [(0, .ref (ad 0)), (1, .int (nI r.length)), (2, .int (nI (t0 + 1)))]) hX dX1_next_24 (by decide) [1, 2, 0] rfl ?_
      exact inner (2 - t0) (t0 + 1) (by omega) (by omega) (fun s h1 h2 => absurd h2 (by omega))
  refine ww_aload_n (pc := 0) hX dX1_next_0 0 rfl ?_
  refine mg_turns (pc := 1) hX dX1_next_1 ?_
  refine ww_iconst (pc := 4) (v := nI 1) hX dX1_next_4 (by decide) ?_
  refine ww_isub (pc := 5) hX dX1_next_5 ?_
  rw [show nI tn - nI 1 = lvI w.reverse.length by
    rw [List.length_reverse, hn]
    cases tn with
    | zero => decide
    | succ k => exact nI_pred k]
  refine ww_istore_n (pc := 6) (lv' := [(0, .ref (ad 0)), (1, .int (lvI w.reverse.length))]) hX dX1_next_6 (by decide) [1, 0] rfl ?_
  exact loop w.reverse (by rw [List.reverse_reverse]; exact hw) hO.symm _ _ _ _ _ _ (by rw [List.reverse_reverse]; exact htu)
end MD
end
section
section ME
variable {l : Launch} {D : va_G} {cB cI : ClassId} {ad : Nat → Nat} {P : Pg} {tn : Nat} {tu st : Nat → Nat} {va : Nat → Int32} {pt : Nat → Nat} {ho : Nat → Int32}
def z_fre (P : Pg) (w : List Nat) (i j : Nat) : Bool := decide (w.getD i 0 ≠ w.getD j 0) && !z_tch P (z_cell P w i) (z_cell P w j)
def z_sin (P : Pg) (w : List Nat) (j : Nat) : Nat → Bool → Bool → Bool
  | 0, _, ok => ok
  | i + 1, fr, ok => if fr = true then z_sin P w j i (z_fre P w i j) (ok && !(z_fre P w i j && decide (w.getD j 0 < w.getD i 0))) else ok
def z_sout (P : Pg) (w : List Nat) : Nat → Bool
  | 0 => true
  | j + 1 => z_sin P w j j true (z_sout P w j)
def z_set (P : Pg) (w : List Nat) : Bool := z_sout P w w.length
def z_stk (P : Pg) (a : Nat → Nat) : Bool := decide (a 0 < pS P 0) || decide (a 1 < pS P 1) || decide (a 2 < pS P 2)
def z_val (g : Zs) (i : Nat) : Int32 := if i < 3 then g.2.1 i else g.2.2 (i - 3)
def z_fS : List Nat → Nat → Nat := fun _ n => n + 1
def z_fC (P : Pg) : List Nat → Nat → Nat := fun w n => if z_set P w = true then n + 1 else n
def z_fK (P : Pg) : List Nat → Bool → Bool := fun w b => b || z_stk P (z_sta P w).1
def z_fE (P : Pg) (x : Nat) (v : Int32) (y : Nat) (u : Int32) : List Nat → Bool → Bool := fun w b => b || (decide ((z_sta P w).2.1 x = v) && decide ((z_sta P w).2.1 y = u))
def z_fM (P : Pg) (i k : Nat) : List Nat → Int32 → Int32 := fun w b => if k = 0 then (if z_val (z_sta P w) i < b then z_val (z_sta P w) i else b) else (if b < z_val (z_sta P w) i then z_val (z_sta P w) i else b)
theorem z_cell_lt {P : Pg} (hok : pOk P) {w : List Nat} (hw : z_ok P w) {i : Nat} (hi : i < w.length) : z_cell P w i < 12 := by
  obtain ⟨-, h1, h2, -⟩ := z_ok_take hw hi
  have h3 := z_can_lt h2
  have h4 := hok.1 (w.getD i 0)
  unfold z_cell
  omega
theorem z_mst_val {P : Pg} {g : Zs} {va : Nat → Int32} {pt : Nat → Nat} {ho : Nat → Int32} (h : z_mst P g va pt ho) {i : Nat} (hi : i < 6) : va i = z_val g i := by
  unfold z_val
  by_cases h3 : i < 3
  · rw [if_pos h3]; exact (h.1 i h3).1
  · rw [if_neg h3]
    have := (h.1 (i - 3) (by omega)).2.1
    rwa [show 3 + (i - 3) = i by omega] at this
set_option maxHeartbeats 4000000 in
set_option maxRecDepth 100000 in
/-- settled -/
theorem mm_settled (w : List Nat) (hok : pOk P) (hw : z_ok P w) (hn : w.length = tn) (hag : z_agr P w tu st) : MI l D cB cI yX1_settled cX1_settled 5 (some .boolean) 1 25 [.ref (ad 0)] (mW ad cI P tn tu st va pt ho) (fun r_ w_ => r_ = bI (z_set P w) ∧ w_ = mW ad cI P tn tu st va pt ho) := by
  refine MI.of (by decide) (Nat.le_of_ble_eq_true rfl) ?_
  intro X eL eD hX hret
  subst eL; subst eD
  have hX : Fx X cX1_settled RX1 5 1 25 cB cI := hX
  show ww X (mW ad cI P tn tu st va pt ho) [(0, .ref (ad 0))] 0 []
  have hlen := z_ok_len hok hw
  have loop : ∀ n j : Nat, j + n = w.length → ww X (mW ad cI P tn tu st va pt ho) [(0, .ref (ad 0)), (1, .int (bI (z_sout P w j))), (2, .int (nI j))] 4 [] := by
    intro n
    induction n with
    | zero =>
      intro j hj
      obtain rfl : j = w.length := by omega
      refine ww_iload_n (pc := 4) hX dX1_settled_4 2 rfl ?_
      refine ww_aload_n (pc := 5) hX dX1_settled_5 0 rfl ?_
      refine mg_turns (pc := 6) hX dX1_settled_6 ?_
      refine ww_icmp_geN (pc := 9) (tgt := 112) hX (by omega) (by omega) dX1_settled_9 (by decide) (fun c1 => ?_) (fun c1 => ?_)
      · refine ww_iload_n (pc := 112) hX dX1_settled_112 1 rfl ?_
        exact hret _ _ _ _ (nb_b _) (⟨rfl, rfl⟩) dX1_settled_113
      · exact absurd c1 (by omega)
    | succ n ih =>
      intro j hj
      have inner : ∀ (i : Nat) (fr ok : Bool), i ≤ j → z_sin P w j i fr ok = z_sout P w (j + 1) → ww X (mW ad cI P tn tu st va pt ho) [(0, .ref (ad 0)), (1, .int (bI ok)), (2, .int (nI j)), (3, .int (bI fr)), (4, .int (lvI i))] 19 [] := by
        intro i
        induction i with
        | zero =>
          intro fr ok hi hz
          have ih_ := ih (j + 1) (by omega)
          rw [← hz] at ih_
          show ww X (mW ad cI P tn tu st va pt ho) [(0, .ref (ad 0)), (1, .int (bI ok)), (2, .int (nI j)), (3, .int (bI fr)), (4, .int (-1))] 19 []
          refine ww_iload (pc := 19) hX dX1_settled_19 4 rfl ?_
          refine ww_if_lt (pc := 21) (tgt := 106) hX dX1_settled_21 (by decide) (fun d1 => ?_) (fun d1 => ?_)
          · refine ww_iincN (pc := 106) (lv' := [(0, .ref (ad 0)), (1, .int (bI ok)), (2, .int (nI (j + 1))), (3, .int (bI fr)), (4, .int (-1))]) hX dX1_settled_106 2 rfl (by decide) [1, 2, 0, 3, 4] rfl ?_
            refine ww_goto (pc := 109) (tgt := 4) hX dX1_settled_109 (by decide) ?_
            refine ww_sub [0, 1, 2] rfl (lv := [(0, .ref (ad 0)), (1, .int (bI ok)), (2, .int (nI (j + 1)))]) ?_
            exact ih_
          · exact absurd (show (-1 : Int32) < 0 by decide) d1
        | succ i ihi =>
          intro fr ok hi hz
          show ww X (mW ad cI P tn tu st va pt ho) [(0, .ref (ad 0)), (1, .int (bI ok)), (2, .int (nI j)), (3, .int (bI fr)), (4, .int (nI i))] 19 []
          have hti := (hag i (by omega)).1
          have htj := (hag j (by omega)).1
          have hsi := (hag i (by omega)).2
          have hsj := (hag j (by omega)).2
          have ht3 := (z_ok_take hw (show i < w.length by omega)).2.1
          have ht4 := (z_ok_take hw (show j < w.length by omega)).2.1
          refine ww_iload (pc := 19) hX dX1_settled_19 4 rfl ?_
          refine ww_if_ltN (pc := 21) hX (by omega) dX1_settled_21 106 (by decide) ?_
          refine ww_iload_n (pc := 24) hX dX1_settled_24 3 rfl ?_
          refine ww_if_eqB (pc := 25) (tgt := 106) hX dX1_settled_25 (by decide) (fun d2 => ?_) (fun d2 => ?_)
          · have ih_ := ih (j + 1) (by omega)
            rw [← hz, z_sin, if_neg (by rw [d2]; decide)] at ih_
            refine ww_iincN (pc := 106) (lv' := [(0, .ref (ad 0)), (1, .int (bI ok)), (2, .int (nI (j + 1))), (3, .int (bI fr)), (4, .int (nI i))]) hX dX1_settled_106 2 rfl (by decide) [1, 2, 0, 3, 4] rfl ?_
            refine ww_goto (pc := 109) (tgt := 4) hX dX1_settled_109 (by decide) ?_
            refine ww_sub [0, 1, 2] rfl (lv := [(0, .ref (ad 0)), (1, .int (bI ok)), (2, .int (nI (j + 1)))]) ?_
            exact ih_
          · rw [z_sin, if_pos d2] at hz
            have J69 : ∀ v_ : Int32, v_ = (bI (z_fre P w i j)) → ww X (mW ad cI P tn tu st va pt ho) [(0, .ref (ad 0)), (1, .int (bI ok)), (2, .int (nI j)), (3, .int (bI fr)), (4, .int (nI i))] 69 [.int v_] := by
              rintro _ rfl
              refine ww_istore_n (pc := 69) (lv' := [(0, .ref (ad 0)), (1, .int (bI ok)), (2, .int (nI j)), (3, .int (bI (z_fre P w i j))), (4, .int (nI i))]) hX dX1_settled_69 (by decide) [1, 2, 3, 0, 4] rfl ?_
              have J99 : ∀ v_ : Int32, v_ = (bI (ok && !(z_fre P w i j && decide (w.getD j 0 < w.getD i 0)))) → ww X (mW ad cI P tn tu st va pt ho) [(0, .ref (ad 0)), (1, .int (bI ok)), (2, .int (nI j)), (3, .int (bI (z_fre P w i j))), (4, .int (nI i))] 99 [.int v_] := by
                rintro _ rfl
                refine ww_istore_n (pc := 99) (lv' := [(0, .ref (ad 0)), (1, .int (bI (ok && !(z_fre P w i j && decide (w.getD j 0 < w.getD i 0))))), (2, .int (nI j)), (3, .int (bI (z_fre P w i j))), (4, .int (nI i))]) hX dX1_settled_99 (by decide) [1, 0, 2, 3, 4] rfl ?_
                refine ww_iinc (pc := 100) (v := lvI i) (lv' := [(0, .ref (ad 0)), (1, .int (bI (ok && !(z_fre P w i j && decide (w.getD j 0 < w.getD i 0))))), (2, .int (nI j)), (3, .int (bI (z_fre P w i j))), (4, .int (lvI i))]) hX dX1_settled_100 4 rfl (lvI_dec _) (by decide) [1, 2, 3, 4, 0] rfl ?_
                refine ww_goto (pc := 103) (tgt := 19) hX dX1_settled_103 (by decide) ?_
                exact ihi _ _ (by omega) hz
              refine ww_iload_n (pc := 70) hX dX1_settled_70 1 rfl ?_
              refine ww_if_eqB (pc := 71) (tgt := 98) hX dX1_settled_71 (by decide) (fun e1 => ?_) (fun e1 => ?_)
              · refine ww_iconst (pc := 98) (v := bI false) hX dX1_settled_98 (by first | decide | rfl) ?_
                exact J99 _ (by rw [e1]; rfl)
              · refine ww_iload_n (pc := 74) hX dX1_settled_74 3 rfl ?_
                refine ww_if_eqB (pc := 75) (tgt := 94) hX dX1_settled_75 (by decide) (fun e2 => ?_) (fun e2 => ?_)
                · refine ww_iconst (pc := 94) (v := bI true) hX dX1_settled_94 (by first | decide | rfl) ?_
                  refine ww_goto (pc := 95) (tgt := 99) hX dX1_settled_95 (by decide) ?_
                  exact J99 _ (by rw [e1, e2]; rfl)
                · refine ww_aload_n (pc := 78) hX dX1_settled_78 0 rfl ?_
                  refine mg_turn (pc := 79) hX dX1_settled_79 ?_
                  refine ww_iload_n (pc := 82) hX dX1_settled_82 2 rfl ?_
                  refine ml_turn (pc := 83) hX (by omega) dX1_settled_83 ?_
                  rw [htj]
                  refine ww_aload_n (pc := 84) hX dX1_settled_84 0 rfl ?_
                  refine mg_turn (pc := 85) hX dX1_settled_85 ?_
                  refine ww_iload (pc := 88) hX dX1_settled_88 4 rfl ?_
                  refine ml_turn (pc := 90) hX (by omega) dX1_settled_90 ?_
                  rw [hti]
                  refine ww_icmp_ltN (pc := 91) (tgt := 98) hX (by omega) (by omega) dX1_settled_91 (by decide) (fun e3 => ?_) (fun e3 => ?_)
                  · refine ww_iconst (pc := 98) (v := bI false) hX dX1_settled_98 (by first | decide | rfl) ?_
                    exact J99 _ (by rw [e1, e2, decide_eq_true e3]; rfl)
                  · refine ww_iconst (pc := 94) (v := bI true) hX dX1_settled_94 (by first | decide | rfl) ?_
                    refine ww_goto (pc := 95) (tgt := 99) hX dX1_settled_95 (by decide) ?_
                    exact J99 _ (by rw [e1, e2, decide_eq_false (by omega)]; rfl)
            refine ww_aload_n (pc := 28) hX dX1_settled_28 0 rfl ?_
            refine mg_turn (pc := 29) hX dX1_settled_29 ?_
            refine ww_iload (pc := 32) hX dX1_settled_32 4 rfl ?_
            refine ml_turn (pc := 34) hX (by omega) dX1_settled_34 ?_
            rw [hti]
            refine ww_aload_n (pc := 35) hX dX1_settled_35 0 rfl ?_
            refine mg_turn (pc := 36) hX dX1_settled_36 ?_
            refine ww_iload_n (pc := 39) hX dX1_settled_39 2 rfl ?_
            refine ml_turn (pc := 40) hX (by omega) dX1_settled_40 ?_
            rw [htj]
            refine ww_icmp_eqN (pc := 41) (tgt := 68) hX (by omega) (by omega) dX1_settled_41 (by decide) (fun d3 => ?_) (fun d3 => ?_)
            · refine ww_iconst (pc := 68) (v := bI false) hX dX1_settled_68 (by first | decide | rfl) ?_
              exact J69 _ (by rw [z_fre, decide_eq_false (fun q => q d3)]; rfl)
            · refine ww_aload_n (pc := 44) hX dX1_settled_44 0 rfl ?_
              refine ww_aload_n (pc := 45) hX dX1_settled_45 0 rfl ?_
              refine mg_steps (pc := 46) hX dX1_settled_46 ?_
              refine ww_iload (pc := 49) hX dX1_settled_49 4 rfl ?_
              refine ml_steps (pc := 51) hX (by omega) dX1_settled_51 ?_
              rw [hsi]
              refine ww_aload_n (pc := 52) hX dX1_settled_52 0 rfl ?_
              refine mg_steps (pc := 53) hX dX1_settled_53 ?_
              refine ww_iload_n (pc := 56) hX dX1_settled_56 2 rfl ?_
              refine ml_steps (pc := 57) hX (by omega) dX1_settled_57 ?_
              rw [hsj]
              refine ww_callI (pc := 58) (n := 2) (rest := []) hX (mm_touch _ _ hok (z_cell_lt hok hw (by omega)) (z_cell_lt hok hw (by omega))) (lw_V q293 q295 qs18 q22 q296) (by decide +kernel) rfl ⟨by decide, by decide⟩ 0 1 rfl rfl rfl (Nat.le_of_ble_eq_true rfl) dX1_settled_58 (fun r_ w_ hq_ => ?_)
              obtain ⟨rfl, rfl⟩ := hq_
              refine ww_if_neB (pc := 61) (tgt := 68) hX dX1_settled_61 (by decide) (fun d4 => ?_) (fun d4 => ?_)
              · refine ww_iconst (pc := 68) (v := bI false) hX dX1_settled_68 (by first | decide | rfl) ?_
                exact J69 _ (by rw [z_fre, d4, Bool.not_true, Bool.and_false])
              · refine ww_iconst (pc := 64) (v := bI true) hX dX1_settled_64 (by first | decide | rfl) ?_
                refine ww_goto (pc := 65) (tgt := 69) hX dX1_settled_65 (by decide) ?_
                exact J69 _ (by rw [z_fre, d4, decide_eq_true d3]; rfl)
      refine ww_iload_n (pc := 4) hX dX1_settled_4 2 rfl ?_
      refine ww_aload_n (pc := 5) hX dX1_settled_5 0 rfl ?_
      refine mg_turns (pc := 6) hX dX1_settled_6 ?_
      refine ww_icmp_geN (pc := 9) (tgt := 112) hX (by omega) (by omega) dX1_settled_9 (by decide) (fun c1 => ?_) (fun c1 => ?_)
      · exact absurd c1 (by omega)
      · refine ww_iconst (pc := 12) (v := bI true) hX dX1_settled_12 (by first | decide | rfl) ?_
        refine ww_istore_n (pc := 13) (lv' := [(0, .ref (ad 0)), (1, .int (bI (z_sout P w j))), (2, .int (nI j)), (3, .int (bI true))]) hX dX1_settled_13 (by decide) [1, 2, 3, 0] rfl ?_
        refine ww_iload_n (pc := 14) hX dX1_settled_14 2 rfl ?_
        refine ww_iconst (pc := 15) (v := nI 1) hX dX1_settled_15 (by decide) ?_
        refine ww_isub (pc := 16) hX dX1_settled_16 ?_
        rw [show nI j - nI 1 = lvI j by
          cases j with
          | zero => decide
          | succ k => exact nI_pred k]
        refine ww_istore (pc := 17) (lv' := [(0, .ref (ad 0)), (1, .int (bI (z_sout P w j))), (2, .int (nI j)), (3, .int (bI true)), (4, .int (lvI j))]) hX dX1_settled_17 (by decide) [1, 2, 3, 4, 0] rfl ?_
        exact inner j true _ (Nat.le_refl _) rfl
  refine ww_iconst (pc := 0) (v := bI (z_sout P w 0)) hX dX1_settled_0 (by first | decide | rfl) ?_
  refine ww_istore_n (pc := 1) (lv' := [(0, .ref (ad 0)), (1, .int (bI (z_sout P w 0)))]) hX dX1_settled_1 (by decide) [1, 0] rfl ?_
  refine ww_iconst (pc := 2) (v := nI 0) hX dX1_settled_2 (by decide) ?_
  refine ww_istore_n (pc := 3) (lv' := [(0, .ref (ad 0)), (1, .int (bI (z_sout P w 0))), (2, .int (nI 0))]) hX dX1_settled_3 (by decide) [1, 2, 0] rfl ?_
  exact loop w.length 0 (by omega)
set_option maxHeartbeats 4000000 in
set_option maxRecDepth 100000 in
/-- schedules -/
theorem mm_schedules (hok : pOk P) : MI l D cB cI yX1_schedules cX1_schedules 3 (some .int) 3 70 [.ref (ad 0)] (mW ad cI P tn tu st va pt ho) (fun r_ w_ => r_ = nI (z_loop P z_fS 34650 (z_first P) 0) ∧ mOK ad cI P w_) := by
  refine MI.of (by decide) (Nat.le_of_ble_eq_true rfl) ?_
  intro X eL eD hX hret
  subst eL; subst eD
  have hX : Fx X cX1_schedules RX1 3 3 70 cB cI := hX
  show ww X (mW ad cI P tn tu st va pt ho) [(0, .ref (ad 0))] 0 []
  obtain ⟨Z, hZ⟩ : ∃ Z, Z = z_loop P z_fS 34650 (z_first P) 0 := ⟨_, rfl⟩
  rw [← hZ] at hret
  have loop : ∀ (k n : Nat) (w : List Nat), z_ok P w → n + k = 34650 → z_loop P z_fS k w n = Z → ∀ (u1 s1 : Nat → Nat) (v1 : Nat → Int32) (p1 : Nat → Nat) (h1 : Nat → Int32), z_agr P w u1 s1 → ww X (mW ad cI P w.length u1 s1 v1 p1 h1) [(0, .ref (ad 0)), (1, .int (nI n)), (2, .int (bI true))] 8 [] := by
    intro k
    induction k with
    | zero =>
      intro n w hw hn hz u1 s1 v1 p1 h1 ha
      obtain rfl : n = Z := hz
      refine ww_iload_n (pc := 8) hX dX1_schedules_8 2 rfl ?_
      refine ww_if_eqB (pc := 9) (tgt := 29) hX dX1_schedules_9 (by decide) (fun c1 => ?_) (fun c1 => ?_)
      · cases c1
      · refine ww_iload_n (pc := 12) hX dX1_schedules_12 1 rfl ?_
        refine ww_ldc (pc := 13) (v := nI 34650) hX q280 dX1_schedules_13 ?_
        refine ww_icmp_geN (pc := 15) (tgt := 29) hX (by omega) (by omega) dX1_schedules_15 (by decide) (fun c2 => ?_) (fun c2 => ?_)
        · refine ww_iload_n (pc := 29) hX dX1_schedules_29 1 rfl ?_
          exact hret _ _ _ _ (rfl) (⟨rfl, ⟨_, _, _, _, _, _, rfl⟩⟩) dX1_schedules_30
        · exact absurd c2 (by omega)
    | succ k ih =>
      intro n w hw hn hz u1 s1 v1 p1 h1 ha
      rw [z_loop] at hz
      refine ww_iload_n (pc := 8) hX dX1_schedules_8 2 rfl ?_
      refine ww_if_eqB (pc := 9) (tgt := 29) hX dX1_schedules_9 (by decide) (fun c1 => ?_) (fun c1 => ?_)
      · cases c1
      · refine ww_iload_n (pc := 12) hX dX1_schedules_12 1 rfl ?_
        refine ww_ldc (pc := 13) (v := nI 34650) hX q280 dX1_schedules_13 ?_
        refine ww_icmp_geN (pc := 15) (tgt := 29) hX (by omega) (by omega) dX1_schedules_15 (by decide) (fun c2 => ?_) (fun c2 => ?_)
        · exact absurd c2 (by omega)
        · refine ww_iincN (pc := 18) (lv' := [(0, .ref (ad 0)), (1, .int (nI (n + 1))), (2, .int (bI true))]) hX dX1_schedules_18 1 rfl (by decide) [1, 0, 2] rfl ?_
          refine ww_aload_n (pc := 21) hX dX1_schedules_21 0 rfl ?_
          refine ww_callI (pc := 22) (n := 0) (rest := []) hX (mm_next w hok hw rfl (z_agr_tur ha)) (lw_V q281 q283 qs16 q22 q284) (by decide +kernel) rfl ⟨by decide, by decide⟩ 0 1 rfl rfl rfl (Nat.le_of_ble_eq_true rfl) dX1_schedules_22 (fun r_ w_ hq_ => ?_)
          cases hx : z_nx P w with
          | none =>
            rw [hx] at hq_
            obtain ⟨rfl, hmk⟩ := hq_
            obtain ⟨n2, u2, s2, v2, p2, h2, rfl⟩ := hmk
            rw [hx] at hz
            obtain rfl : n + 1 = Z := hz
            refine ww_istore_n (pc := 25) (lv' := [(0, .ref (ad 0)), (1, .int (nI (n + 1))), (2, .int (bI false))]) hX dX1_schedules_25 (by decide) [1, 2, 0] rfl ?_
            refine ww_goto (pc := 26) (tgt := 8) hX dX1_schedules_26 (by decide) ?_
            refine ww_iload_n (pc := 8) hX dX1_schedules_8 2 rfl ?_
            refine ww_if_eqB (pc := 9) (tgt := 29) hX dX1_schedules_9 (by decide) (fun e1 => ?_) (fun e1 => ?_)
            · refine ww_iload_n (pc := 29) hX dX1_schedules_29 1 rfl ?_
              exact hret _ _ _ _ (rfl) (⟨rfl, ⟨_, _, _, _, _, _, rfl⟩⟩) dX1_schedules_30
            · cases e1
          | some w' =>
            rw [hx] at hq_
            obtain ⟨rfl, hw', u2, s2, v2, p2, h2, rfl, ha'⟩ := hq_
            rw [hx] at hz
            refine ww_istore_n (pc := 25) (lv' := [(0, .ref (ad 0)), (1, .int (nI (n + 1))), (2, .int (bI true))]) hX dX1_schedules_25 (by decide) [1, 2, 0] rfl ?_
            refine ww_goto (pc := 26) (tgt := 8) hX dX1_schedules_26 (by decide) ?_
            exact ih (n + 1) w' hw' (by omega) hz u2 s2 v2 p2 h2 ha'
  refine ww_iconst (pc := 0) (v := nI 0) hX dX1_schedules_0 (by decide) ?_
  refine ww_istore_n (pc := 1) (lv' := [(0, .ref (ad 0)), (1, .int (nI 0))]) hX dX1_schedules_1 (by decide) [1, 0] rfl ?_
  refine ww_aload_n (pc := 2) hX dX1_schedules_2 0 rfl ?_
  refine ww_callV (pc := 3) (n := 0) (rest := []) hX (mm_first hok) (lw_V q260 q262 qs11 q22 q263) (by decide +kernel) rfl ⟨by decide, by decide⟩ 0 1 rfl rfl rfl (Nat.le_of_ble_eq_true rfl) dX1_schedules_3 (fun w_ hq_ => ?_)
  obtain ⟨hw, u1, s1, v1, p1, h1, rfl, ha⟩ := hq_
  refine ww_iconst (pc := 6) (v := bI true) hX dX1_schedules_6 (by first | decide | rfl) ?_
  refine ww_istore_n (pc := 7) (lv' := [(0, .ref (ad 0)), (1, .int (nI 0)), (2, .int (bI true))]) hX dX1_schedules_7 (by decide) [1, 2, 0] rfl ?_
  exact loop 34650 0 (z_first P) hw (by omega) hZ.symm u1 s1 v1 p1 h1 ha
end ME
end
section
section MF
variable {l : Launch} {D : va_G} {cB cI : ClassId} {ad : Nat → Nat} {P : Pg} {tn : Nat} {tu st : Nat → Nat} {va : Nat → Int32} {pt : Nat → Nat} {ho : Nat → Int32}
set_option maxHeartbeats 4000000 in
set_option maxRecDepth 100000 in
/-- classes -/
theorem mm_classes (hok : pOk P) : MI l D cB cI yX1_classes cX1_classes 4 (some .int) 3 70 [.ref (ad 0)] (mW ad cI P tn tu st va pt ho) (fun r_ w_ => r_ = nI (z_loop P (z_fC P) 34650 (z_first P) 0) ∧ mOK ad cI P w_) := by
  refine MI.of (by decide) (Nat.le_of_ble_eq_true rfl) ?_
  intro X eL eD hX hret
  subst eL; subst eD
  have hX : Fx X cX1_classes RX1 4 3 70 cB cI := hX
  show ww X (mW ad cI P tn tu st va pt ho) [(0, .ref (ad 0))] 0 []
  obtain ⟨Z, hZ⟩ : ∃ Z, Z = z_loop P (z_fC P) 34650 (z_first P) 0 := ⟨_, rfl⟩
  rw [← hZ] at hret
  have loop : ∀ (kq n : Nat) (w : List Nat) (b : Nat), z_ok P w → n + kq = 34650 → z_loop P (z_fC P) kq w b = Z → ∀ (u1 s1 : Nat → Nat) (v1 : Nat → Int32) (p1 : Nat → Nat) (h1 : Nat → Int32), z_agr P w u1 s1 → ww X (mW ad cI P w.length u1 s1 v1 p1 h1) [(0, .ref (ad 0)), (1, .int (nI b)), (2, .int (bI true)), (3, .int (nI n))] 10 [] := by
    intro kq
    induction kq with
    | zero =>
      intro n w b hw hn hz u1 s1 v1 p1 h1 ha
      obtain rfl : b = Z := hz
      refine ww_iload_n (pc := 10) hX dX1_classes_10 3 rfl ?_
      refine ww_ldc (pc := 11) (v := nI 34650) hX q280 dX1_classes_11 ?_
      refine ww_icmp_geN (pc := 13) (tgt := 46) hX (by omega) (by omega) dX1_classes_13 (by decide) (fun c1 => ?_) (fun c1 => ?_)
      · refine ww_iload_n (pc := 46) hX dX1_classes_46 1 rfl ?_
        exact hret _ _ _ _ (rfl) (⟨rfl, ⟨_, _, _, _, _, _, rfl⟩⟩) dX1_classes_47
      · exact absurd c1 (by omega)
    | succ kq ih =>
      intro n w b hw hn hz u1 s1 v1 p1 h1 ha
      rw [z_loop] at hz
      refine ww_iload_n (pc := 10) hX dX1_classes_10 3 rfl ?_
      refine ww_ldc (pc := 11) (v := nI 34650) hX q280 dX1_classes_11 ?_
      refine ww_icmp_geN (pc := 13) (tgt := 46) hX (by omega) (by omega) dX1_classes_13 (by decide) (fun c1 => ?_) (fun c1 => ?_)
      · exact absurd c1 (by omega)
      · refine ww_iload_n (pc := 16) hX dX1_classes_16 2 rfl ?_
        refine ww_if_eqB (pc := 17) (tgt := 46) hX dX1_classes_17 (by decide) (fun c2 => ?_) (fun c2 => ?_)
        · cases c2
        · refine ww_aload_n (pc := 20) hX dX1_classes_20 0 rfl ?_
          refine ww_callI (pc := 21) (n := 0) (rest := []) hX (mm_settled w hok hw rfl ha) (lw_V q289 q291 qs17 q22 q292) (by decide +kernel) rfl ⟨by decide, by decide⟩ 0 1 rfl rfl rfl (Nat.le_of_ble_eq_true rfl) dX1_classes_21 (fun r_ w_ hq_ => ?_)
          obtain ⟨rfl, rfl⟩ := hq_
          have J34 : ∀ v_ : Int32, v_ = (nI (z_fC P w b)) → ww X (mW ad cI P w.length u1 s1 v1 p1 h1) [(0, .ref (ad 0)), (1, .int (nI b)), (2, .int (bI true)), (3, .int (nI n))] 34 [.int v_] := by
            rintro _ rfl
            refine ww_istore_n (pc := 34) (lv' := [(0, .ref (ad 0)), (1, .int (nI (z_fC P w b))), (2, .int (bI true)), (3, .int (nI n))]) hX dX1_classes_34 (by decide) [1, 0, 2, 3] rfl ?_
            refine ww_aload_n (pc := 35) hX dX1_classes_35 0 rfl ?_
            refine ww_callI (pc := 36) (n := 0) (rest := []) hX (mm_next w hok hw rfl (z_agr_tur ha)) (lw_V q281 q283 qs16 q22 q284) (by decide +kernel) rfl ⟨by decide, by decide⟩ 0 1 rfl rfl rfl (Nat.le_of_ble_eq_true rfl) dX1_classes_36 (fun r_ w_ hq_ => ?_)
            cases hx : z_nx P w with
            | none =>
              rw [hx] at hq_ hz
              obtain ⟨rfl, hmk⟩ := hq_
              obtain ⟨n2, u2, s2, v2, p2, h2, rfl⟩ := hmk
              obtain rfl : (z_fC P) w b = Z := hz
              refine ww_istore_n (pc := 39) (lv' := [(0, .ref (ad 0)), (1, .int (nI (z_fC P w b))), (2, .int (bI false)), (3, .int (nI n))]) hX dX1_classes_39 (by decide) [1, 2, 0, 3] rfl ?_
              refine ww_iincN (pc := 40) (lv' := [(0, .ref (ad 0)), (1, .int (nI (z_fC P w b))), (2, .int (bI false)), (3, .int (nI (n + 1)))]) hX dX1_classes_40 3 rfl (by decide) [1, 2, 3, 0] rfl ?_
              refine ww_goto (pc := 43) (tgt := 10) hX dX1_classes_43 (by decide) ?_
              refine ww_iload_n (pc := 10) hX dX1_classes_10 3 rfl ?_
              refine ww_ldc (pc := 11) (v := nI 34650) hX q280 dX1_classes_11 ?_
              refine ww_icmp_geN (pc := 13) (tgt := 46) hX (by omega) (by omega) dX1_classes_13 (by decide) (fun c1 => ?_) (fun c1 => ?_)
              · refine ww_iload_n (pc := 46) hX dX1_classes_46 1 rfl ?_
                exact hret _ _ _ _ (rfl) (⟨rfl, ⟨_, _, _, _, _, _, rfl⟩⟩) dX1_classes_47
              · refine ww_iload_n (pc := 16) hX dX1_classes_16 2 rfl ?_
                refine ww_if_eqB (pc := 17) (tgt := 46) hX dX1_classes_17 (by decide) (fun c3 => ?_) (fun c3 => ?_)
                · refine ww_iload_n (pc := 46) hX dX1_classes_46 1 rfl ?_
                  exact hret _ _ _ _ (rfl) (⟨rfl, ⟨_, _, _, _, _, _, rfl⟩⟩) dX1_classes_47
                · cases c3
            | some w' =>
              rw [hx] at hq_ hz
              obtain ⟨rfl, hw', u2, s2, v2, p2, h2, rfl, ha'⟩ := hq_
              refine ww_istore_n (pc := 39) (lv' := [(0, .ref (ad 0)), (1, .int (nI (z_fC P w b))), (2, .int (bI true)), (3, .int (nI n))]) hX dX1_classes_39 (by decide) [1, 2, 0, 3] rfl ?_
              refine ww_iincN (pc := 40) (lv' := [(0, .ref (ad 0)), (1, .int (nI (z_fC P w b))), (2, .int (bI true)), (3, .int (nI (n + 1)))]) hX dX1_classes_40 3 rfl (by decide) [1, 2, 3, 0] rfl ?_
              refine ww_goto (pc := 43) (tgt := 10) hX dX1_classes_43 (by decide) ?_
              exact ih (n + 1) w' ((z_fC P) w b) hw' (by omega) hz u2 s2 v2 p2 h2 ha'
          refine ww_if_eqB (pc := 24) (tgt := 33) hX dX1_classes_24 (by decide) (fun d1 => ?_) (fun d1 => ?_)
          · refine ww_iload_n (pc := 33) hX dX1_classes_33 1 rfl ?_
            exact J34 _ (by rw [z_fC, if_neg (by rw [d1]; decide)])
          · refine ww_iload_n (pc := 27) hX dX1_classes_27 1 rfl ?_
            refine ww_iconst (pc := 28) (v := nI 1) hX dX1_classes_28 (by decide) ?_
            refine ww_iaddN (pc := 29) hX dX1_classes_29 ?_
            refine ww_goto (pc := 30) (tgt := 34) hX dX1_classes_30 (by decide) ?_
            exact J34 _ (by rw [z_fC, if_pos d1])
  refine ww_iconst (pc := 0) (v := nI 0) hX dX1_classes_0 (by decide) ?_
  refine ww_istore_n (pc := 1) (lv' := [(0, .ref (ad 0)), (1, .int (nI 0))]) hX dX1_classes_1 (by decide) [1, 0] rfl ?_
  refine ww_aload_n (pc := 2) hX dX1_classes_2 0 rfl ?_
  refine ww_callV (pc := 3) (n := 0) (rest := []) hX (mm_first hok) (lw_V q260 q262 qs11 q22 q263) (by decide +kernel) rfl ⟨by decide, by decide⟩ 0 1 rfl rfl rfl (Nat.le_of_ble_eq_true rfl) dX1_classes_3 (fun w_ hq_ => ?_)
  obtain ⟨hw, u1, s1, v1, p1, h1, rfl, ha⟩ := hq_
  refine ww_iconst (pc := 6) (v := bI true) hX dX1_classes_6 (by first | decide | rfl) ?_
  refine ww_istore_n (pc := 7) (lv' := [(0, .ref (ad 0)), (1, .int (nI 0)), (2, .int (bI true))]) hX dX1_classes_7 (by decide) [1, 2, 0] rfl ?_
  refine ww_iconst (pc := 8) (v := nI 0) hX dX1_classes_8 (by decide) ?_
  refine ww_istore_n (pc := 9) (lv' := [(0, .ref (ad 0)), (1, .int (nI 0)), (2, .int (bI true)), (3, .int (nI 0))]) hX dX1_classes_9 (by decide) [1, 2, 3, 0] rfl ?_
  exact loop 34650 0 (z_first P) _ hw (by omega) hZ.symm u1 s1 v1 p1 h1 ha
set_option maxHeartbeats 4000000 in
set_option maxRecDepth 100000 in
/-- canStick -/
theorem mm_canStick (hok : pOk P) : MI l D cB cI yX1_canStick cX1_canStick 4 (some .boolean) 3 70 [.ref (ad 0)] (mW ad cI P tn tu st va pt ho) (fun r_ w_ => r_ = bI (z_loop P (z_fK P) 34650 (z_first P) false) ∧ mOK ad cI P w_) := by
  refine MI.of (by decide) (Nat.le_of_ble_eq_true rfl) ?_
  intro X eL eD hX hret
  subst eL; subst eD
  have hX : Fx X cX1_canStick RX1 4 3 70 cB cI := hX
  show ww X (mW ad cI P tn tu st va pt ho) [(0, .ref (ad 0))] 0 []
  obtain ⟨Z, hZ⟩ : ∃ Z, Z = z_loop P (z_fK P) 34650 (z_first P) false := ⟨_, rfl⟩
  rw [← hZ] at hret
  have loop : ∀ (kq n : Nat) (w : List Nat) (b : Bool), z_ok P w → n + kq = 34650 → z_loop P (z_fK P) kq w b = Z → ∀ (u1 s1 : Nat → Nat) (v1 : Nat → Int32) (p1 : Nat → Nat) (h1 : Nat → Int32), z_agr P w u1 s1 → ww X (mW ad cI P w.length u1 s1 v1 p1 h1) [(0, .ref (ad 0)), (1, .int (bI b)), (2, .int (bI true)), (3, .int (nI n))] 10 [] := by
    intro kq
    induction kq with
    | zero =>
      intro n w b hw hn hz u1 s1 v1 p1 h1 ha
      obtain rfl : b = Z := hz
      refine ww_iload_n (pc := 10) hX dX1_canStick_10 3 rfl ?_
      refine ww_ldc (pc := 11) (v := nI 34650) hX q280 dX1_canStick_11 ?_
      refine ww_icmp_geN (pc := 13) (tgt := 94) hX (by omega) (by omega) dX1_canStick_13 (by decide) (fun c1 => ?_) (fun c1 => ?_)
      · refine ww_iload_n (pc := 94) hX dX1_canStick_94 1 rfl ?_
        exact hret _ _ _ _ (nb_b _) (⟨rfl, ⟨_, _, _, _, _, _, rfl⟩⟩) dX1_canStick_95
      · exact absurd c1 (by omega)
    | succ kq ih =>
      intro n w b hw hn hz u1 s1 v1 p1 h1 ha
      rw [z_loop] at hz
      refine ww_iload_n (pc := 10) hX dX1_canStick_10 3 rfl ?_
      refine ww_ldc (pc := 11) (v := nI 34650) hX q280 dX1_canStick_11 ?_
      refine ww_icmp_geN (pc := 13) (tgt := 94) hX (by omega) (by omega) dX1_canStick_13 (by decide) (fun c1 => ?_) (fun c1 => ?_)
      · exact absurd c1 (by omega)
      · refine ww_iload_n (pc := 16) hX dX1_canStick_16 2 rfl ?_
        refine ww_if_eqB (pc := 17) (tgt := 94) hX dX1_canStick_17 (by decide) (fun c2 => ?_) (fun c2 => ?_)
        · cases c2
        · refine ww_aload_n (pc := 20) hX dX1_canStick_20 0 rfl ?_
          refine ww_aload_n (pc := 21) hX dX1_canStick_21 0 rfl ?_
          refine mg_turns (pc := 22) hX dX1_canStick_22 ?_
          refine ww_callV (pc := 25) (n := 1) (rest := []) hX (mm_replay w w.length hok hw rfl (z_agr_tur ha)) (lw_V q264 q266 qs12 q22 q267) (by decide +kernel) rfl ⟨by decide, by decide⟩ 0 1 rfl rfl rfl (Nat.le_of_ble_eq_true rfl) dX1_canStick_25 (fun w_ hq_ => ?_)
          obtain ⟨s3, v3, p3, h3, rfl, hs3, -, hm⟩ := hq_
          have ha : z_agr P w u1 s3 := fun i hi => ⟨(ha i hi).1, hs3 i hi⟩
          have e0 := (hm.1 0 (by decide)).2.2
          have e1 := (hm.1 1 (by decide)).2.2
          have e2 := (hm.1 2 (by decide)).2.2
          have hin := (z_ok_in hw).1
          have g0 := hin.1 0 (by decide)
          have q0 := hok.1 0
          have g1 := hin.1 1 (by decide)
          have q1 := hok.1 1
          have g2 := hin.1 2 (by decide)
          have q2 := hok.1 2
          have J82 : ∀ v_ : Int32, v_ = (bI (z_fK P w b)) → ww X (mW ad cI P w.length u1 s3 v3 p3 h3) [(0, .ref (ad 0)), (1, .int (bI b)), (2, .int (bI true)), (3, .int (nI n))] 82 [.int v_] := by
            rintro _ rfl
            refine ww_istore_n (pc := 82) (lv' := [(0, .ref (ad 0)), (1, .int (bI (z_fK P w b))), (2, .int (bI true)), (3, .int (nI n))]) hX dX1_canStick_82 (by decide) [1, 0, 2, 3] rfl ?_
            refine ww_aload_n (pc := 83) hX dX1_canStick_83 0 rfl ?_
            refine ww_callI (pc := 84) (n := 0) (rest := []) hX (mm_next w hok hw rfl (z_agr_tur ha)) (lw_V q281 q283 qs16 q22 q284) (by decide +kernel) rfl ⟨by decide, by decide⟩ 0 1 rfl rfl rfl (Nat.le_of_ble_eq_true rfl) dX1_canStick_84 (fun r_ w_ hq_ => ?_)
            cases hx : z_nx P w with
            | none =>
              rw [hx] at hq_ hz
              obtain ⟨rfl, hmk⟩ := hq_
              obtain ⟨n2, u2, s2, v2, p2, h2, rfl⟩ := hmk
              obtain rfl : (z_fK P) w b = Z := hz
              refine ww_istore_n (pc := 87) (lv' := [(0, .ref (ad 0)), (1, .int (bI (z_fK P w b))), (2, .int (bI false)), (3, .int (nI n))]) hX dX1_canStick_87 (by decide) [1, 2, 0, 3] rfl ?_
              refine ww_iincN (pc := 88) (lv' := [(0, .ref (ad 0)), (1, .int (bI (z_fK P w b))), (2, .int (bI false)), (3, .int (nI (n + 1)))]) hX dX1_canStick_88 3 rfl (by decide) [1, 2, 3, 0] rfl ?_
              refine ww_goto (pc := 91) (tgt := 10) hX dX1_canStick_91 (by decide) ?_
              refine ww_iload_n (pc := 10) hX dX1_canStick_10 3 rfl ?_
              refine ww_ldc (pc := 11) (v := nI 34650) hX q280 dX1_canStick_11 ?_
              refine ww_icmp_geN (pc := 13) (tgt := 94) hX (by omega) (by omega) dX1_canStick_13 (by decide) (fun c1 => ?_) (fun c1 => ?_)
              · refine ww_iload_n (pc := 94) hX dX1_canStick_94 1 rfl ?_
                exact hret _ _ _ _ (nb_b _) (⟨rfl, ⟨_, _, _, _, _, _, rfl⟩⟩) dX1_canStick_95
              · refine ww_iload_n (pc := 16) hX dX1_canStick_16 2 rfl ?_
                refine ww_if_eqB (pc := 17) (tgt := 94) hX dX1_canStick_17 (by decide) (fun c3 => ?_) (fun c3 => ?_)
                · refine ww_iload_n (pc := 94) hX dX1_canStick_94 1 rfl ?_
                  exact hret _ _ _ _ (nb_b _) (⟨rfl, ⟨_, _, _, _, _, _, rfl⟩⟩) dX1_canStick_95
                · cases c3
            | some w' =>
              rw [hx] at hq_ hz
              obtain ⟨rfl, hw', u2, s2, v2, p2, h2, rfl, ha'⟩ := hq_
              refine ww_istore_n (pc := 87) (lv' := [(0, .ref (ad 0)), (1, .int (bI (z_fK P w b))), (2, .int (bI true)), (3, .int (nI n))]) hX dX1_canStick_87 (by decide) [1, 2, 0, 3] rfl ?_
              refine ww_iincN (pc := 88) (lv' := [(0, .ref (ad 0)), (1, .int (bI (z_fK P w b))), (2, .int (bI true)), (3, .int (nI (n + 1)))]) hX dX1_canStick_88 3 rfl (by decide) [1, 2, 3, 0] rfl ?_
              refine ww_goto (pc := 91) (tgt := 10) hX dX1_canStick_91 (by decide) ?_
              exact ih (n + 1) w' ((z_fK P) w b) hw' (by omega) hz u2 s2 v2 p2 h2 ha'
          refine ww_iload_n (pc := 28) hX dX1_canStick_28 1 rfl ?_
          refine ww_if_neB (pc := 29) (tgt := 77) hX dX1_canStick_29 (by decide) (fun d1 => ?_) (fun d1 => ?_)
          · refine ww_iconst (pc := 77) (v := bI true) hX dX1_canStick_77 (by first | decide | rfl) ?_
            refine ww_goto (pc := 78) (tgt := 82) hX dX1_canStick_78 (by decide) ?_
            exact J82 _ (by rw [z_fK, d1, Bool.true_or])
          · refine ww_aload_n (pc := 32) hX dX1_canStick_32 0 rfl ?_
            refine mg_at (pc := 33) hX dX1_canStick_33 ?_
            refine ww_iconst (pc := 36) (v := nI 0) hX dX1_canStick_36 (by decide) ?_
            refine ml_at (pc := 37) hX (by omega) dX1_canStick_37 ?_
            rw [e0]
            refine ww_aload_n (pc := 38) hX dX1_canStick_38 0 rfl ?_
            refine mg_size (pc := 39) hX dX1_canStick_39 ?_
            refine ww_iconst (pc := 42) (v := nI 0) hX dX1_canStick_42 (by decide) ?_
            refine ml_size (pc := 43) hX (by omega) dX1_canStick_43 ?_
            refine ww_icmp_ltN (pc := 44) (tgt := 77) hX (by omega) (by omega) dX1_canStick_44 (by decide) (fun f0 => ?_) (fun f0 => ?_)
            · refine ww_iconst (pc := 77) (v := bI true) hX dX1_canStick_77 (by first | decide | rfl) ?_
              refine ww_goto (pc := 78) (tgt := 82) hX dX1_canStick_78 (by decide) ?_
              exact J82 _ (by rw [z_fK, d1, z_stk, decide_eq_true f0]; rfl)
            · refine ww_aload_n (pc := 47) hX dX1_canStick_47 0 rfl ?_
              refine mg_at (pc := 48) hX dX1_canStick_48 ?_
              refine ww_iconst (pc := 51) (v := nI 1) hX dX1_canStick_51 (by decide) ?_
              refine ml_at (pc := 52) hX (by omega) dX1_canStick_52 ?_
              rw [e1]
              refine ww_aload_n (pc := 53) hX dX1_canStick_53 0 rfl ?_
              refine mg_size (pc := 54) hX dX1_canStick_54 ?_
              refine ww_iconst (pc := 57) (v := nI 1) hX dX1_canStick_57 (by decide) ?_
              refine ml_size (pc := 58) hX (by omega) dX1_canStick_58 ?_
              refine ww_icmp_ltN (pc := 59) (tgt := 77) hX (by omega) (by omega) dX1_canStick_59 (by decide) (fun f1 => ?_) (fun f1 => ?_)
              · refine ww_iconst (pc := 77) (v := bI true) hX dX1_canStick_77 (by first | decide | rfl) ?_
                refine ww_goto (pc := 78) (tgt := 82) hX dX1_canStick_78 (by decide) ?_
                exact J82 _ (by rw [z_fK, d1, z_stk, decide_eq_false (Nat.not_lt.mpr f0), decide_eq_true f1]; rfl)
              · refine ww_aload_n (pc := 62) hX dX1_canStick_62 0 rfl ?_
                refine mg_at (pc := 63) hX dX1_canStick_63 ?_
                refine ww_iconst (pc := 66) (v := nI 2) hX dX1_canStick_66 (by decide) ?_
                refine ml_at (pc := 67) hX (by omega) dX1_canStick_67 ?_
                rw [e2]
                refine ww_aload_n (pc := 68) hX dX1_canStick_68 0 rfl ?_
                refine mg_size (pc := 69) hX dX1_canStick_69 ?_
                refine ww_iconst (pc := 72) (v := nI 2) hX dX1_canStick_72 (by decide) ?_
                refine ml_size (pc := 73) hX (by omega) dX1_canStick_73 ?_
                refine ww_icmp_geN (pc := 74) (tgt := 81) hX (by omega) (by omega) dX1_canStick_74 (by decide) (fun f2 => ?_) (fun f2 => ?_)
                · refine ww_iconst (pc := 81) (v := bI false) hX dX1_canStick_81 (by first | decide | rfl) ?_
                  exact J82 _ (by rw [z_fK, d1, z_stk, decide_eq_false (Nat.not_lt.mpr f0), decide_eq_false (Nat.not_lt.mpr f1), decide_eq_false (Nat.not_lt.mpr f2)]; rfl)
                · refine ww_iconst (pc := 77) (v := bI true) hX dX1_canStick_77 (by first | decide | rfl) ?_
                  refine ww_goto (pc := 78) (tgt := 82) hX dX1_canStick_78 (by decide) ?_
                  exact J82 _ (by rw [z_fK, d1, z_stk, decide_eq_false (Nat.not_lt.mpr f0), decide_eq_false (Nat.not_lt.mpr f1), decide_eq_true f2]; rfl)
  refine ww_iconst (pc := 0) (v := bI false) hX dX1_canStick_0 (by first | decide | rfl) ?_
  refine ww_istore_n (pc := 1) (lv' := [(0, .ref (ad 0)), (1, .int (bI false))]) hX dX1_canStick_1 (by decide) [1, 0] rfl ?_
  refine ww_aload_n (pc := 2) hX dX1_canStick_2 0 rfl ?_
  refine ww_callV (pc := 3) (n := 0) (rest := []) hX (mm_first hok) (lw_V q260 q262 qs11 q22 q263) (by decide +kernel) rfl ⟨by decide, by decide⟩ 0 1 rfl rfl rfl (Nat.le_of_ble_eq_true rfl) dX1_canStick_3 (fun w_ hq_ => ?_)
  obtain ⟨hw, u1, s1, v1, p1, h1, rfl, ha⟩ := hq_
  refine ww_iconst (pc := 6) (v := bI true) hX dX1_canStick_6 (by first | decide | rfl) ?_
  refine ww_istore_n (pc := 7) (lv' := [(0, .ref (ad 0)), (1, .int (bI false)), (2, .int (bI true))]) hX dX1_canStick_7 (by decide) [1, 2, 0] rfl ?_
  refine ww_iconst (pc := 8) (v := nI 0) hX dX1_canStick_8 (by decide) ?_
  refine ww_istore_n (pc := 9) (lv' := [(0, .ref (ad 0)), (1, .int (bI false)), (2, .int (bI true)), (3, .int (nI 0))]) hX dX1_canStick_9 (by decide) [1, 2, 3, 0] rfl ?_
  exact loop 34650 0 (z_first P) _ hw (by omega) hZ.symm u1 s1 v1 p1 h1 ha
set_option maxHeartbeats 4000000 in
set_option maxRecDepth 100000 in
/-- canEndBoth -/
theorem mm_canEndBoth (x v y u : Int32) (hok : pOk P) : MI l D cB cI yX1_canEndBoth cX1_canEndBoth 8 (some .boolean) 3 70 [.ref (ad 0), .int x, .int v, .int y, .int u] (mW ad cI P tn tu st va pt ho) (fun r_ w_ => r_ = bI (z_ix x && z_ix y && z_loop P (z_fE P x.toNatClampNeg v y.toNatClampNeg u) 34650 (z_first P) false) ∧ mOK ad cI P w_) := by
  refine MI.of (by decide) (Nat.le_of_ble_eq_true rfl) ?_
  intro X eL eD hX hret
  subst eL; subst eD
  have hX : Fx X cX1_canEndBoth RX1 8 3 70 cB cI := hX
  show ww X (mW ad cI P tn tu st va pt ho) [(0, .ref (ad 0)), (1, .int x), (2, .int v), (3, .int y), (4, .int u)] 0 []
  refine ww_iload_n (pc := 0) hX dX1_canEndBoth_0 1 rfl ?_
  refine ww_if_lt (pc := 1) (tgt := 18) hX dX1_canEndBoth_1 (by decide) (fun c1 => ?_) (fun c1 => ?_)
  · refine ww_iconst (pc := 18) (v := bI false) hX dX1_canEndBoth_18 (by first | decide | rfl) ?_
    exact hret _ _ _ _ (nb_b _) (⟨by rw [z_ix_f1 c1]; rfl, ⟨_, _, _, _, _, _, rfl⟩⟩) dX1_canEndBoth_19
  · refine ww_iload_n (pc := 4) hX dX1_canEndBoth_4 1 rfl ?_
    refine ww_iconst (pc := 5) (v := nI 2) hX dX1_canEndBoth_5 (by decide) ?_
    refine ww_icmp_gt (pc := 6) (tgt := 18) hX dX1_canEndBoth_6 (by decide) (fun c2 => ?_) (fun c2 => ?_)
    · refine ww_iconst (pc := 18) (v := bI false) hX dX1_canEndBoth_18 (by first | decide | rfl) ?_
      exact hret _ _ _ _ (nb_b _) (⟨by rw [z_ix_f2 c2]; rfl, ⟨_, _, _, _, _, _, rfl⟩⟩) dX1_canEndBoth_19
    · refine ww_iload_n (pc := 9) hX dX1_canEndBoth_9 3 rfl ?_
      refine ww_if_lt (pc := 10) (tgt := 18) hX dX1_canEndBoth_10 (by decide) (fun c3 => ?_) (fun c3 => ?_)
      · refine ww_iconst (pc := 18) (v := bI false) hX dX1_canEndBoth_18 (by first | decide | rfl) ?_
        exact hret _ _ _ _ (nb_b _) (⟨by rw [z_ix_f1 c3, Bool.and_false]; rfl, ⟨_, _, _, _, _, _, rfl⟩⟩) dX1_canEndBoth_19
      · refine ww_iload_n (pc := 13) hX dX1_canEndBoth_13 3 rfl ?_
        refine ww_iconst (pc := 14) (v := nI 2) hX dX1_canEndBoth_14 (by decide) ?_
        refine ww_icmp_le (pc := 15) (tgt := 20) hX dX1_canEndBoth_15 (by decide) (fun c4 => ?_) (fun c4 => ?_)
        · have hix := z_ix_t c1 c2
          have hiy := z_ix_t c3 (Int32.not_lt.mpr c4)
          obtain ⟨xx, hxx, rfl⟩ := z_ix_of hix
          obtain ⟨yy, hyy, rfl⟩ := z_ix_of hiy
          rw [hix, hiy, nI_clamp (show xx < 2 ^ 31 by omega), nI_clamp (show yy < 2 ^ 31 by omega), Bool.true_and, Bool.true_and] at hret
          obtain ⟨Z, hZ⟩ : ∃ Z, Z = z_loop P (z_fE P xx v yy u) 34650 (z_first P) false := ⟨_, rfl⟩
          rw [← hZ] at hret
          have loop : ∀ (kq n : Nat) (w : List Nat) (b : Bool), z_ok P w → n + kq = 34650 → z_loop P (z_fE P xx v yy u) kq w b = Z → ∀ (u1 s1 : Nat → Nat) (v1 : Nat → Int32) (p1 : Nat → Nat) (h1 : Nat → Int32), z_agr P w u1 s1 → ww X (mW ad cI P w.length u1 s1 v1 p1 h1) [(0, .ref (ad 0)), (1, .int (nI xx)), (2, .int v), (3, .int (nI yy)), (4, .int u), (5, .int (bI b)), (6, .int (bI true)), (7, .int (nI n))] 33 [] := by
            intro kq
            induction kq with
            | zero =>
              intro n w b hw hn hz u1 s1 v1 p1 h1 ha
              obtain rfl : b = Z := hz
              refine ww_iload (pc := 33) hX dX1_canEndBoth_33 7 rfl ?_
              refine ww_ldc (pc := 35) (v := nI 34650) hX q280 dX1_canEndBoth_35 ?_
              refine ww_icmp_geN (pc := 37) (tgt := 98) hX (by omega) (by omega) dX1_canEndBoth_37 (by decide) (fun c1 => ?_) (fun c1 => ?_)
              · refine ww_iload (pc := 98) hX dX1_canEndBoth_98 5 rfl ?_
                exact hret _ _ _ _ (nb_b _) (⟨rfl, ⟨_, _, _, _, _, _, rfl⟩⟩) dX1_canEndBoth_100
              · exact absurd c1 (by omega)
            | succ kq ih =>
              intro n w b hw hn hz u1 s1 v1 p1 h1 ha
              rw [z_loop] at hz
              refine ww_iload (pc := 33) hX dX1_canEndBoth_33 7 rfl ?_
              refine ww_ldc (pc := 35) (v := nI 34650) hX q280 dX1_canEndBoth_35 ?_
              refine ww_icmp_geN (pc := 37) (tgt := 98) hX (by omega) (by omega) dX1_canEndBoth_37 (by decide) (fun c1 => ?_) (fun c1 => ?_)
              · exact absurd c1 (by omega)
              · refine ww_iload (pc := 40) hX dX1_canEndBoth_40 6 rfl ?_
                refine ww_if_eqB (pc := 42) (tgt := 98) hX dX1_canEndBoth_42 (by decide) (fun c2 => ?_) (fun c2 => ?_)
                · cases c2
                · refine ww_aload_n (pc := 45) hX dX1_canEndBoth_45 0 rfl ?_
                  refine ww_aload_n (pc := 46) hX dX1_canEndBoth_46 0 rfl ?_
                  refine mg_turns (pc := 47) hX dX1_canEndBoth_47 ?_
                  refine ww_callV (pc := 50) (n := 1) (rest := []) hX (mm_replay w w.length hok hw rfl (z_agr_tur ha)) (lw_V q264 q266 qs12 q22 q267) (by decide +kernel) rfl ⟨by decide, by decide⟩ 0 1 rfl rfl rfl (Nat.le_of_ble_eq_true rfl) dX1_canEndBoth_50 (fun w_ hq_ => ?_)
                  obtain ⟨s3, v3, p3, h3, rfl, hs3, -, hm⟩ := hq_
                  have ha : z_agr P w u1 s3 := fun i hi => ⟨(ha i hi).1, hs3 i hi⟩
                  have e1 := (hm.1 xx hxx).1
                  have e2 := (hm.1 yy hyy).1
                  have J84 : ∀ v_ : Int32, v_ = (bI (z_fE P xx v yy u w b)) → ww X (mW ad cI P w.length u1 s3 v3 p3 h3) [(0, .ref (ad 0)), (1, .int (nI xx)), (2, .int v), (3, .int (nI yy)), (4, .int u), (5, .int (bI b)), (6, .int (bI true)), (7, .int (nI n))] 84 [.int v_] := by
                    rintro _ rfl
                    refine ww_istore (pc := 84) (lv' := [(0, .ref (ad 0)), (1, .int (nI xx)), (2, .int v), (3, .int (nI yy)), (4, .int u), (5, .int (bI (z_fE P xx v yy u w b))), (6, .int (bI true)), (7, .int (nI n))]) hX dX1_canEndBoth_84 (by decide) [1, 2, 3, 4, 5, 0, 6, 7] rfl ?_
                    refine ww_aload_n (pc := 86) hX dX1_canEndBoth_86 0 rfl ?_
                    refine ww_callI (pc := 87) (n := 0) (rest := []) hX (mm_next w hok hw rfl (z_agr_tur ha)) (lw_V q281 q283 qs16 q22 q284) (by decide +kernel) rfl ⟨by decide, by decide⟩ 0 1 rfl rfl rfl (Nat.le_of_ble_eq_true rfl) dX1_canEndBoth_87 (fun r_ w_ hq_ => ?_)
                    cases hx : z_nx P w with
                    | none =>
                      rw [hx] at hq_ hz
                      obtain ⟨rfl, hmk⟩ := hq_
                      obtain ⟨n2, u2, s2, v2, p2, h2, rfl⟩ := hmk
                      obtain rfl : (z_fE P xx v yy u) w b = Z := hz
                      refine ww_istore (pc := 90) (lv' := [(0, .ref (ad 0)), (1, .int (nI xx)), (2, .int v), (3, .int (nI yy)), (4, .int u), (5, .int (bI (z_fE P xx v yy u w b))), (6, .int (bI false)), (7, .int (nI n))]) hX dX1_canEndBoth_90 (by decide) [1, 2, 3, 4, 5, 6, 0, 7] rfl ?_
                      refine ww_iincN (pc := 92) (lv' := [(0, .ref (ad 0)), (1, .int (nI xx)), (2, .int v), (3, .int (nI yy)), (4, .int u), (5, .int (bI (z_fE P xx v yy u w b))), (6, .int (bI false)), (7, .int (nI (n + 1)))]) hX dX1_canEndBoth_92 7 rfl (by decide) [1, 2, 3, 4, 5, 6, 7, 0] rfl ?_
                      refine ww_goto (pc := 95) (tgt := 33) hX dX1_canEndBoth_95 (by decide) ?_
                      refine ww_iload (pc := 33) hX dX1_canEndBoth_33 7 rfl ?_
                      refine ww_ldc (pc := 35) (v := nI 34650) hX q280 dX1_canEndBoth_35 ?_
                      refine ww_icmp_geN (pc := 37) (tgt := 98) hX (by omega) (by omega) dX1_canEndBoth_37 (by decide) (fun c1 => ?_) (fun c1 => ?_)
                      · refine ww_iload (pc := 98) hX dX1_canEndBoth_98 5 rfl ?_
                        exact hret _ _ _ _ (nb_b _) (⟨rfl, ⟨_, _, _, _, _, _, rfl⟩⟩) dX1_canEndBoth_100
                      · refine ww_iload (pc := 40) hX dX1_canEndBoth_40 6 rfl ?_
                        refine ww_if_eqB (pc := 42) (tgt := 98) hX dX1_canEndBoth_42 (by decide) (fun c3 => ?_) (fun c3 => ?_)
                        · refine ww_iload (pc := 98) hX dX1_canEndBoth_98 5 rfl ?_
                          exact hret _ _ _ _ (nb_b _) (⟨rfl, ⟨_, _, _, _, _, _, rfl⟩⟩) dX1_canEndBoth_100
                        · cases c3
                    | some w' =>
                      rw [hx] at hq_ hz
                      obtain ⟨rfl, hw', u2, s2, v2, p2, h2, rfl, ha'⟩ := hq_
                      refine ww_istore (pc := 90) (lv' := [(0, .ref (ad 0)), (1, .int (nI xx)), (2, .int v), (3, .int (nI yy)), (4, .int u), (5, .int (bI (z_fE P xx v yy u w b))), (6, .int (bI true)), (7, .int (nI n))]) hX dX1_canEndBoth_90 (by decide) [1, 2, 3, 4, 5, 6, 0, 7] rfl ?_
                      refine ww_iincN (pc := 92) (lv' := [(0, .ref (ad 0)), (1, .int (nI xx)), (2, .int v), (3, .int (nI yy)), (4, .int u), (5, .int (bI (z_fE P xx v yy u w b))), (6, .int (bI true)), (7, .int (nI (n + 1)))]) hX dX1_canEndBoth_92 7 rfl (by decide) [1, 2, 3, 4, 5, 6, 7, 0] rfl ?_
                      refine ww_goto (pc := 95) (tgt := 33) hX dX1_canEndBoth_95 (by decide) ?_
                      exact ih (n + 1) w' ((z_fE P xx v yy u) w b) hw' (by omega) hz u2 s2 v2 p2 h2 ha'
                  refine ww_iload (pc := 53) hX dX1_canEndBoth_53 5 rfl ?_
                  refine ww_if_neB (pc := 55) (tgt := 79) hX dX1_canEndBoth_55 (by decide) (fun d1 => ?_) (fun d1 => ?_)
                  · refine ww_iconst (pc := 79) (v := bI true) hX dX1_canEndBoth_79 (by first | decide | rfl) ?_
                    refine ww_goto (pc := 80) (tgt := 84) hX dX1_canEndBoth_80 (by decide) ?_
                    exact J84 _ (by rw [z_fE, d1, Bool.true_or])
                  · refine ww_aload_n (pc := 58) hX dX1_canEndBoth_58 0 rfl ?_
                    refine mg_values (pc := 59) hX dX1_canEndBoth_59 ?_
                    refine ww_iload_n (pc := 62) hX dX1_canEndBoth_62 1 rfl ?_
                    refine ml_values (pc := 63) hX (by omega) dX1_canEndBoth_63 ?_
                    rw [e1]
                    refine ww_iload_n (pc := 64) hX dX1_canEndBoth_64 2 rfl ?_
                    refine ww_icmp_ne (pc := 65) (tgt := 83) hX dX1_canEndBoth_65 (by decide) (fun d2 => ?_) (fun d2 => ?_)
                    · refine ww_iconst (pc := 83) (v := bI false) hX dX1_canEndBoth_83 (by first | decide | rfl) ?_
                      exact J84 _ (by rw [z_fE, d1, decide_eq_false d2]; rfl)
                    · refine ww_aload_n (pc := 68) hX dX1_canEndBoth_68 0 rfl ?_
                      refine mg_values (pc := 69) hX dX1_canEndBoth_69 ?_
                      refine ww_iload_n (pc := 72) hX dX1_canEndBoth_72 3 rfl ?_
                      refine ml_values (pc := 73) hX (by omega) dX1_canEndBoth_73 ?_
                      rw [e2]
                      refine ww_iload (pc := 74) hX dX1_canEndBoth_74 4 rfl ?_
                      refine ww_icmp_ne (pc := 76) (tgt := 83) hX dX1_canEndBoth_76 (by decide) (fun d3 => ?_) (fun d3 => ?_)
                      · refine ww_iconst (pc := 83) (v := bI false) hX dX1_canEndBoth_83 (by first | decide | rfl) ?_
                        exact J84 _ (by rw [z_fE, d1, decide_eq_false d3, Bool.and_false]; rfl)
                      · refine ww_iconst (pc := 79) (v := bI true) hX dX1_canEndBoth_79 (by first | decide | rfl) ?_
                        refine ww_goto (pc := 80) (tgt := 84) hX dX1_canEndBoth_80 (by decide) ?_
                        exact J84 _ (by rw [z_fE, d1, decide_eq_true d2, decide_eq_true d3]; rfl)
          refine ww_iconst (pc := 20) (v := bI false) hX dX1_canEndBoth_20 (by first | decide | rfl) ?_
          refine ww_istore (pc := 21) (lv' := [(0, .ref (ad 0)), (1, .int (nI xx)), (2, .int v), (3, .int (nI yy)), (4, .int u), (5, .int (bI false))]) hX dX1_canEndBoth_21 (by decide) [1, 2, 3, 4, 5, 0] rfl ?_
          refine ww_aload_n (pc := 23) hX dX1_canEndBoth_23 0 rfl ?_
          refine ww_callV (pc := 24) (n := 0) (rest := []) hX (mm_first hok) (lw_V q260 q262 qs11 q22 q263) (by decide +kernel) rfl ⟨by decide, by decide⟩ 0 1 rfl rfl rfl (Nat.le_of_ble_eq_true rfl) dX1_canEndBoth_24 (fun w_ hq_ => ?_)
          obtain ⟨hw, u1, s1, v1, p1, h1, rfl, ha⟩ := hq_
          refine ww_iconst (pc := 27) (v := bI true) hX dX1_canEndBoth_27 (by first | decide | rfl) ?_
          refine ww_istore (pc := 28) (lv' := [(0, .ref (ad 0)), (1, .int (nI xx)), (2, .int v), (3, .int (nI yy)), (4, .int u), (5, .int (bI false)), (6, .int (bI true))]) hX dX1_canEndBoth_28 (by decide) [1, 2, 3, 4, 5, 6, 0] rfl ?_
          refine ww_iconst (pc := 30) (v := nI 0) hX dX1_canEndBoth_30 (by decide) ?_
          refine ww_istore (pc := 31) (lv' := [(0, .ref (ad 0)), (1, .int (nI xx)), (2, .int v), (3, .int (nI yy)), (4, .int u), (5, .int (bI false)), (6, .int (bI true)), (7, .int (nI 0))]) hX dX1_canEndBoth_31 (by decide) [1, 2, 3, 4, 5, 6, 7, 0] rfl ?_
          exact loop 34650 0 (z_first P) _ hw (by omega) hZ.symm u1 s1 v1 p1 h1 ha
        · refine ww_iconst (pc := 18) (v := bI false) hX dX1_canEndBoth_18 (by first | decide | rfl) ?_
          exact hret _ _ _ _ (nb_b _) (⟨by rw [z_ix_f2 (Int32.not_le.mp c4), Bool.and_false]; rfl, ⟨_, _, _, _, _, _, rfl⟩⟩) dX1_canEndBoth_19
set_option maxHeartbeats 4000000 in
set_option maxRecDepth 100000 in
/-- canEnd -/
theorem mm_canEnd (x v : Int32) (hok : pOk P) : MI l D cB cI yX1_canEnd cX1_canEnd 3 (some .boolean) 4 97 [.ref (ad 0), .int x, .int v] (mW ad cI P tn tu st va pt ho) (fun r_ w_ => r_ = bI (z_ix x && z_ix x && z_loop P (z_fE P x.toNatClampNeg v x.toNatClampNeg v) 34650 (z_first P) false) ∧ mOK ad cI P w_) := by
  refine MI.of (by decide) (Nat.le_of_ble_eq_true rfl) ?_
  intro X eL eD hX hret
  subst eL; subst eD
  have hX : Fx X cX1_canEnd RX1 3 4 97 cB cI := hX
  show ww X (mW ad cI P tn tu st va pt ho) [(0, .ref (ad 0)), (1, .int x), (2, .int v)] 0 []
  refine ww_aload_n (pc := 0) hX dX1_canEnd_0 0 rfl ?_
  refine ww_iload_n (pc := 1) hX dX1_canEnd_1 1 rfl ?_
  refine ww_iload_n (pc := 2) hX dX1_canEnd_2 2 rfl ?_
  refine ww_iload_n (pc := 3) hX dX1_canEnd_3 1 rfl ?_
  refine ww_iload_n (pc := 4) hX dX1_canEnd_4 2 rfl ?_
  refine ww_callI (pc := 5) (n := 4) (rest := []) hX (mm_canEndBoth x v x v hok) (lw_V q305 q306 q307 q22 q308) (by decide +kernel) rfl ⟨by decide, by decide⟩ 0 1 rfl rfl rfl (Nat.le_of_ble_eq_true rfl) dX1_canEnd_5 (fun r_ w_ hq_ => ?_)
  obtain ⟨rfl, hw⟩ := hq_
  exact hret _ _ _ _ (nb_b _) (⟨rfl, hw⟩) dX1_canEnd_8
set_option maxHeartbeats 4000000 in
set_option maxRecDepth 100000 in
/-- end: the least or the most -/
theorem mm_end (i k : Nat) (hok : pOk P) (hi : i < 6) (hk : k < 2) : MI l D cB cI yX1_end cX1_end 7 (some .int) 3 70 [.ref (ad 0), .int (nI i), .int (nI k)] (mW ad cI P tn tu st va pt ho) (fun r_ w_ => r_ = z_loop P (z_fM P i k) 34650 (z_first P) (z_val (z_sta P (z_first P)) i) ∧ mOK ad cI P w_) := by
  refine MI.of (by decide) (Nat.le_of_ble_eq_true rfl) ?_
  intro X eL eD hX hret
  subst eL; subst eD
  have hX : Fx X cX1_end RX1 7 3 70 cB cI := hX
  show ww X (mW ad cI P tn tu st va pt ho) [(0, .ref (ad 0)), (1, .int (nI i)), (2, .int (nI k))] 0 []
  obtain ⟨Z, hZ⟩ : ∃ Z, Z = z_loop P (z_fM P i k) 34650 (z_first P) (z_val (z_sta P (z_first P)) i) := ⟨_, rfl⟩
  rw [← hZ] at hret
  have loop : ∀ (kq n : Nat) (w : List Nat) (b : Int32), z_ok P w → n + kq = 34650 → z_loop P (z_fM P i k) kq w b = Z → ∀ (u1 s1 : Nat → Nat) (v1 : Nat → Int32) (p1 : Nat → Nat) (h1 : Nat → Int32), z_agr P w u1 s1 → ww X (mW ad cI P w.length u1 s1 v1 p1 h1) [(0, .ref (ad 0)), (1, .int (nI i)), (2, .int (nI k)), (3, .int b), (4, .int (bI true)), (5, .int (nI n))] 25 [] := by
    intro kq
    induction kq with
    | zero =>
      intro n w b hw hn hz u1 s1 v1 p1 h1 ha
      obtain rfl : b = Z := hz
      refine ww_iload (pc := 25) hX dX1_end_25 5 rfl ?_
      refine ww_ldc (pc := 27) (v := nI 34650) hX q280 dX1_end_27 ?_
      refine ww_icmp_geN (pc := 29) (tgt := 97) hX (by omega) (by omega) dX1_end_29 (by decide) (fun c1 => ?_) (fun c1 => ?_)
      · refine ww_iload_n (pc := 97) hX dX1_end_97 3 rfl ?_
        exact hret _ _ _ _ (rfl) (⟨rfl, ⟨_, _, _, _, _, _, rfl⟩⟩) dX1_end_98
      · exact absurd c1 (by omega)
    | succ kq ih =>
      intro n w b hw hn hz u1 s1 v1 p1 h1 ha
      rw [z_loop] at hz
      refine ww_iload (pc := 25) hX dX1_end_25 5 rfl ?_
      refine ww_ldc (pc := 27) (v := nI 34650) hX q280 dX1_end_27 ?_
      refine ww_icmp_geN (pc := 29) (tgt := 97) hX (by omega) (by omega) dX1_end_29 (by decide) (fun c1 => ?_) (fun c1 => ?_)
      · exact absurd c1 (by omega)
      · refine ww_iload (pc := 32) hX dX1_end_32 4 rfl ?_
        refine ww_if_eqB (pc := 34) (tgt := 97) hX dX1_end_34 (by decide) (fun c2 => ?_) (fun c2 => ?_)
        · cases c2
        · refine ww_aload_n (pc := 37) hX dX1_end_37 0 rfl ?_
          refine ww_aload_n (pc := 38) hX dX1_end_38 0 rfl ?_
          refine mg_turns (pc := 39) hX dX1_end_39 ?_
          refine ww_callV (pc := 42) (n := 1) (rest := []) hX (mm_replay w w.length hok hw rfl (z_agr_tur ha)) (lw_V q264 q266 qs12 q22 q267) (by decide +kernel) rfl ⟨by decide, by decide⟩ 0 1 rfl rfl rfl (Nat.le_of_ble_eq_true rfl) dX1_end_42 (fun w_ hq_ => ?_)
          obtain ⟨s3, v3, p3, h3, rfl, hs3, -, hm⟩ := hq_
          have ha : z_agr P w u1 s3 := fun i hi => ⟨(ha i hi).1, hs3 i hi⟩
          have e1 := z_mst_val hm hi
          refine ww_aload_n (pc := 45) hX dX1_end_45 0 rfl ?_
          refine mg_values (pc := 46) hX dX1_end_46 ?_
          refine ww_iload_n (pc := 49) hX dX1_end_49 1 rfl ?_
          refine ml_values (pc := 50) hX (by omega) dX1_end_50 ?_
          rw [e1]
          refine ww_istore (pc := 51) (lv' := [(0, .ref (ad 0)), (1, .int (nI i)), (2, .int (nI k)), (3, .int b), (4, .int (bI true)), (5, .int (nI n)), (6, .int (z_val (z_sta P w) i))]) hX dX1_end_51 (by decide) [1, 2, 3, 4, 5, 6, 0] rfl ?_
          have J84 : ∀ v_ : Int32, v_ = (z_fM P i k w b) → ww X (mW ad cI P w.length u1 s3 v3 p3 h3) [(0, .ref (ad 0)), (1, .int (nI i)), (2, .int (nI k)), (3, .int b), (4, .int (bI true)), (5, .int (nI n)), (6, .int (z_val (z_sta P w) i))] 84 [.int v_] := by
            rintro _ rfl
            refine ww_istore_n (pc := 84) (lv' := [(0, .ref (ad 0)), (1, .int (nI i)), (2, .int (nI k)), (3, .int (z_fM P i k w b)), (4, .int (bI true)), (5, .int (nI n)), (6, .int (z_val (z_sta P w) i))]) hX dX1_end_84 (by decide) [1, 2, 3, 0, 4, 5, 6] rfl ?_
            refine ww_aload_n (pc := 85) hX dX1_end_85 0 rfl ?_
            refine ww_sub [0, 1, 2, 3, 4, 5] rfl (lv := [(0, .ref (ad 0)), (1, .int (nI i)), (2, .int (nI k)), (3, .int (z_fM P i k w b)), (4, .int (bI true)), (5, .int (nI n))]) ?_
            refine ww_callI (pc := 86) (n := 0) (rest := []) hX (mm_next w hok hw rfl (z_agr_tur ha)) (lw_V q281 q283 qs16 q22 q284) (by decide +kernel) rfl ⟨by decide, by decide⟩ 0 1 rfl rfl rfl (Nat.le_of_ble_eq_true rfl) dX1_end_86 (fun r_ w_ hq_ => ?_)
            cases hx : z_nx P w with
            | none =>
              rw [hx] at hq_ hz
              obtain ⟨rfl, hmk⟩ := hq_
              obtain ⟨n2, u2, s2, v2, p2, h2, rfl⟩ := hmk
              obtain rfl : (z_fM P i k) w b = Z := hz
              refine ww_istore (pc := 89) (lv' := [(0, .ref (ad 0)), (1, .int (nI i)), (2, .int (nI k)), (3, .int (z_fM P i k w b)), (4, .int (bI false)), (5, .int (nI n))]) hX dX1_end_89 (by decide) [1, 2, 3, 4, 0, 5] rfl ?_
              refine ww_iincN (pc := 91) (lv' := [(0, .ref (ad 0)), (1, .int (nI i)), (2, .int (nI k)), (3, .int (z_fM P i k w b)), (4, .int (bI false)), (5, .int (nI (n + 1)))]) hX dX1_end_91 5 rfl (by decide) [1, 2, 3, 4, 5, 0] rfl ?_
              refine ww_goto (pc := 94) (tgt := 25) hX dX1_end_94 (by decide) ?_
              refine ww_iload (pc := 25) hX dX1_end_25 5 rfl ?_
              refine ww_ldc (pc := 27) (v := nI 34650) hX q280 dX1_end_27 ?_
              refine ww_icmp_geN (pc := 29) (tgt := 97) hX (by omega) (by omega) dX1_end_29 (by decide) (fun c1 => ?_) (fun c1 => ?_)
              · refine ww_iload_n (pc := 97) hX dX1_end_97 3 rfl ?_
                exact hret _ _ _ _ (rfl) (⟨rfl, ⟨_, _, _, _, _, _, rfl⟩⟩) dX1_end_98
              · refine ww_iload (pc := 32) hX dX1_end_32 4 rfl ?_
                refine ww_if_eqB (pc := 34) (tgt := 97) hX dX1_end_34 (by decide) (fun c3 => ?_) (fun c3 => ?_)
                · refine ww_iload_n (pc := 97) hX dX1_end_97 3 rfl ?_
                  exact hret _ _ _ _ (rfl) (⟨rfl, ⟨_, _, _, _, _, _, rfl⟩⟩) dX1_end_98
                · cases c3
            | some w' =>
              rw [hx] at hq_ hz
              obtain ⟨rfl, hw', u2, s2, v2, p2, h2, rfl, ha'⟩ := hq_
              refine ww_istore (pc := 89) (lv' := [(0, .ref (ad 0)), (1, .int (nI i)), (2, .int (nI k)), (3, .int (z_fM P i k w b)), (4, .int (bI true)), (5, .int (nI n))]) hX dX1_end_89 (by decide) [1, 2, 3, 4, 0, 5] rfl ?_
              refine ww_iincN (pc := 91) (lv' := [(0, .ref (ad 0)), (1, .int (nI i)), (2, .int (nI k)), (3, .int (z_fM P i k w b)), (4, .int (bI true)), (5, .int (nI (n + 1)))]) hX dX1_end_91 5 rfl (by decide) [1, 2, 3, 4, 5, 0] rfl ?_
              refine ww_goto (pc := 94) (tgt := 25) hX dX1_end_94 (by decide) ?_
              exact ih (n + 1) w' ((z_fM P i k) w b) hw' (by omega) hz u2 s2 v2 p2 h2 ha'
          refine ww_iload_n (pc := 53) hX dX1_end_53 2 rfl ?_
          refine ww_if_neN (pc := 54) (tgt := 72) hX (by omega) dX1_end_54 (by decide) (fun d1 => ?_) (fun d1 => ?_)
          · refine ww_iload (pc := 72) hX dX1_end_72 6 rfl ?_
            refine ww_iload_n (pc := 74) hX dX1_end_74 3 rfl ?_
            refine ww_icmp_le (pc := 75) (tgt := 83) hX dX1_end_75 (by decide) (fun d2 => ?_) (fun d2 => ?_)
            · refine ww_iload_n (pc := 83) hX dX1_end_83 3 rfl ?_
              exact J84 _ (by rw [z_fM, if_neg d1, if_neg (Int32.not_lt.mpr d2)])
            · refine ww_iload (pc := 78) hX dX1_end_78 6 rfl ?_
              refine ww_goto (pc := 80) (tgt := 84) hX dX1_end_80 (by decide) ?_
              exact J84 _ (by rw [z_fM, if_neg d1, if_pos (Int32.not_le.mp d2)])
          · refine ww_iload (pc := 57) hX dX1_end_57 6 rfl ?_
            refine ww_iload_n (pc := 59) hX dX1_end_59 3 rfl ?_
            refine ww_icmp_ge (pc := 60) (tgt := 68) hX dX1_end_60 (by decide) (fun d2 => ?_) (fun d2 => ?_)
            · refine ww_iload_n (pc := 68) hX dX1_end_68 3 rfl ?_
              refine ww_goto (pc := 69) (tgt := 84) hX dX1_end_69 (by decide) ?_
              exact J84 _ (by rw [z_fM, if_pos d1, if_neg (Int32.not_lt.mpr d2)])
            · refine ww_iload (pc := 63) hX dX1_end_63 6 rfl ?_
              refine ww_goto (pc := 65) (tgt := 84) hX dX1_end_65 (by decide) ?_
              exact J84 _ (by rw [z_fM, if_pos d1, if_pos (Int32.not_le.mp d2)])
  refine ww_aload_n (pc := 0) hX dX1_end_0 0 rfl ?_
  refine ww_callV (pc := 1) (n := 0) (rest := []) hX (mm_first hok) (lw_V q260 q262 qs11 q22 q263) (by decide +kernel) rfl ⟨by decide, by decide⟩ 0 1 rfl rfl rfl (Nat.le_of_ble_eq_true rfl) dX1_end_1 (fun w_ hq_ => ?_)
  obtain ⟨hw, u1, s1, v1, p1, h1, rfl, ha⟩ := hq_
  refine ww_aload_n (pc := 4) hX dX1_end_4 0 rfl ?_
  refine ww_aload_n (pc := 5) hX dX1_end_5 0 rfl ?_
  refine mg_turns (pc := 6) hX dX1_end_6 ?_
  refine ww_callV (pc := 9) (n := 1) (rest := []) hX (mm_replay (z_first P) (z_first P).length hok hw rfl (z_agr_tur ha)) (lw_V q264 q266 qs12 q22 q267) (by decide +kernel) rfl ⟨by decide, by decide⟩ 0 1 rfl rfl rfl (Nat.le_of_ble_eq_true rfl) dX1_end_9 (fun w_ hq_ => ?_)
  obtain ⟨s3, v3, p3, h3, rfl, hs3, -, hm⟩ := hq_
  have ha : z_agr P (z_first P) u1 s3 := fun i hi => ⟨(ha i hi).1, hs3 i hi⟩
  have e1 := z_mst_val hm hi
  refine ww_aload_n (pc := 12) hX dX1_end_12 0 rfl ?_
  refine mg_values (pc := 13) hX dX1_end_13 ?_
  refine ww_iload_n (pc := 16) hX dX1_end_16 1 rfl ?_
  refine ml_values (pc := 17) hX (by omega) dX1_end_17 ?_
  rw [e1]
  refine ww_istore_n (pc := 18) (lv' := [(0, .ref (ad 0)), (1, .int (nI i)), (2, .int (nI k)), (3, .int (z_val (z_sta P (z_first P)) i))]) hX dX1_end_18 (by decide) [1, 2, 3, 0] rfl ?_
  refine ww_iconst (pc := 19) (v := bI true) hX dX1_end_19 (by first | decide | rfl) ?_
  refine ww_istore (pc := 20) (lv' := [(0, .ref (ad 0)), (1, .int (nI i)), (2, .int (nI k)), (3, .int (z_val (z_sta P (z_first P)) i)), (4, .int (bI true))]) hX dX1_end_20 (by decide) [1, 2, 3, 4, 0] rfl ?_
  refine ww_iconst (pc := 22) (v := nI 0) hX dX1_end_22 (by decide) ?_
  refine ww_istore (pc := 23) (lv' := [(0, .ref (ad 0)), (1, .int (nI i)), (2, .int (nI k)), (3, .int (z_val (z_sta P (z_first P)) i)), (4, .int (bI true)), (5, .int (nI 0))]) hX dX1_end_23 (by decide) [1, 2, 3, 4, 5, 0] rfl ?_
  exact loop 34650 0 (z_first P) _ hw (by omega) hZ.symm u1 s3 v3 p3 h3 ha
set_option maxHeartbeats 4000000 in
set_option maxRecDepth 100000 in
/-- extreme -/
theorem mm_extreme (x what : Int32) (hok : pOk P) : MI l D cB cI yX1_extreme cX1_extreme 3 (some .int) 4 96 [.ref (ad 0), .int x, .int what] (mW ad cI P tn tu st va pt ho) (fun r_ w_ => r_ = (if z_w01 x what = true then (if what = nI 0 then (z_loop P (z_fM P (x.toNatClampNeg) 0) 34650 (z_first P) (z_val (z_sta P (z_first P)) (x.toNatClampNeg))) else (z_loop P (z_fM P (x.toNatClampNeg) 1) 34650 (z_first P) (z_val (z_sta P (z_first P)) (x.toNatClampNeg)))) else 0) ∧ mOK ad cI P w_) := by
  refine MI.of (by decide) (Nat.le_of_ble_eq_true rfl) ?_
  intro X eL eD hX hret
  subst eL; subst eD
  have hX : Fx X cX1_extreme RX1 3 4 96 cB cI := hX
  show ww X (mW ad cI P tn tu st va pt ho) [(0, .ref (ad 0)), (1, .int x), (2, .int what)] 0 []
  have J22 : z_ix x = true → ∀ k : Nat, k < 2 → what = nI k → ww X (mW ad cI P tn tu st va pt ho) [(0, .ref (ad 0)), (1, .int x), (2, .int what)] 22 [] := by
    intro hix k hk hwk
    obtain ⟨xx, hxx, rfl⟩ := z_ix_of hix
    subst hwk
    have ex : (nI xx).toNatClampNeg = xx := nI_clamp (by omega)
    have hw01 : z_w01 (nI xx) (nI k) = true := by rw [z_w01, hix]; rcases (show k = 0 ∨ k = 1 by omega) with rfl | rfl <;> decide
    refine ww_aload_n (pc := 22) hX dX1_extreme_22 0 rfl ?_
    refine ww_iload_n (pc := 23) hX dX1_extreme_23 1 rfl ?_
    refine ww_iload_n (pc := 24) hX dX1_extreme_24 2 rfl ?_
    refine ww_callI (pc := 25) (n := 2) (rest := []) hX (mm_end xx k hok (by omega) hk) (lw_V q314 q316 qs19 q22 q317) (by decide +kernel) rfl ⟨by decide, by decide⟩ 0 1 rfl rfl rfl (Nat.le_of_ble_eq_true rfl) dX1_extreme_25 (fun r_ w_ hq_ => ?_)
    obtain ⟨rfl, hw⟩ := hq_
    rw [if_pos hw01, ex] at hret
    rcases (show k = 0 ∨ k = 1 by omega) with rfl | rfl
    · exact hret _ _ _ _ (rfl) (⟨by rw [if_pos rfl], hw⟩) dX1_extreme_28
    · exact hret _ _ _ _ (rfl) (⟨by rw [if_neg (by decide)], hw⟩) dX1_extreme_28
  refine ww_iload_n (pc := 0) hX dX1_extreme_0 1 rfl ?_
  refine ww_if_lt (pc := 1) (tgt := 18) hX dX1_extreme_1 (by decide) (fun c1 => ?_) (fun c1 => ?_)
  · refine ww_iconst (pc := 18) (v := nI 0) hX dX1_extreme_18 (by decide) ?_
    refine ww_goto (pc := 19) (tgt := 28) hX dX1_extreme_19 (by decide) ?_
    exact hret _ _ _ _ (rfl) (⟨by rw [z_w01, z_ix_f1 c1]; rfl, ⟨_, _, _, _, _, _, rfl⟩⟩) dX1_extreme_28
  · refine ww_iload_n (pc := 4) hX dX1_extreme_4 1 rfl ?_
    refine ww_iconst (pc := 5) (v := nI 2) hX dX1_extreme_5 (by decide) ?_
    refine ww_icmp_gt (pc := 6) (tgt := 18) hX dX1_extreme_6 (by decide) (fun c2 => ?_) (fun c2 => ?_)
    · refine ww_iconst (pc := 18) (v := nI 0) hX dX1_extreme_18 (by decide) ?_
      refine ww_goto (pc := 19) (tgt := 28) hX dX1_extreme_19 (by decide) ?_
      exact hret _ _ _ _ (rfl) (⟨by rw [z_w01, z_ix_f2 c2]; rfl, ⟨_, _, _, _, _, _, rfl⟩⟩) dX1_extreme_28
    · refine ww_iload_n (pc := 9) hX dX1_extreme_9 2 rfl ?_
      refine ww_if_eq (pc := 10) (tgt := 22) hX dX1_extreme_10 (by decide) (fun c3 => ?_) (fun c3 => ?_)
      · exact J22 (z_ix_t c1 c2) 0 (by decide) c3
      · refine ww_iload_n (pc := 13) hX dX1_extreme_13 2 rfl ?_
        refine ww_iconst (pc := 14) (v := nI 1) hX dX1_extreme_14 (by decide) ?_
        refine ww_icmp_eq (pc := 15) (tgt := 22) hX dX1_extreme_15 (by decide) (fun c4 => ?_) (fun c4 => ?_)
        · exact J22 (z_ix_t c1 c2) 1 (by decide) c4
        · refine ww_iconst (pc := 18) (v := nI 0) hX dX1_extreme_18 (by decide) ?_
          refine ww_goto (pc := 19) (tgt := 28) hX dX1_extreme_19 (by decide) ?_
          exact hret _ _ _ _ (rfl) (⟨by rw [z_w01, decide_eq_false (show ¬ what = nI 0 from c3), decide_eq_false c4, Bool.or_self, Bool.and_false]; rfl, ⟨_, _, _, _, _, _, rfl⟩⟩) dX1_extreme_28
set_option maxHeartbeats 4000000 in
set_option maxRecDepth 100000 in
/-- accumulator -/
theorem mm_accumulator (x what : Int32) (hok : pOk P) : MI l D cB cI yX1_accumulator cX1_accumulator 3 (some .int) 4 96 [.ref (ad 0), .int x, .int what] (mW ad cI P tn tu st va pt ho) (fun r_ w_ => r_ = (if z_w01 x what = true then (if what = nI 0 then (z_loop P (z_fM P (3 + x.toNatClampNeg) 0) 34650 (z_first P) (z_val (z_sta P (z_first P)) (3 + x.toNatClampNeg))) else (z_loop P (z_fM P (3 + x.toNatClampNeg) 1) 34650 (z_first P) (z_val (z_sta P (z_first P)) (3 + x.toNatClampNeg)))) else 0) ∧ mOK ad cI P w_) := by
  refine MI.of (by decide) (Nat.le_of_ble_eq_true rfl) ?_
  intro X eL eD hX hret
  subst eL; subst eD
  have hX : Fx X cX1_accumulator RX1 3 4 96 cB cI := hX
  show ww X (mW ad cI P tn tu st va pt ho) [(0, .ref (ad 0)), (1, .int x), (2, .int what)] 0 []
  have J21 : z_ix x = true → ∀ k : Nat, k < 2 → what = nI k → ww X (mW ad cI P tn tu st va pt ho) [(0, .ref (ad 0)), (1, .int x), (2, .int what)] 21 [] := by
    intro hix k hk hwk
    obtain ⟨xx, hxx, rfl⟩ := z_ix_of hix
    subst hwk
    have ex : (nI xx).toNatClampNeg = xx := nI_clamp (by omega)
    have hw01 : z_w01 (nI xx) (nI k) = true := by rw [z_w01, hix]; rcases (show k = 0 ∨ k = 1 by omega) with rfl | rfl <;> decide
    refine ww_aload_n (pc := 21) hX dX1_accumulator_21 0 rfl ?_
    refine ww_iconst (pc := 22) (v := nI 3) hX dX1_accumulator_22 (by decide) ?_
    refine ww_iload_n (pc := 23) hX dX1_accumulator_23 1 rfl ?_
    refine ww_iaddN (pc := 24) hX dX1_accumulator_24 ?_
    refine ww_iload_n (pc := 25) hX dX1_accumulator_25 2 rfl ?_
    refine ww_callI (pc := 26) (n := 2) (rest := []) hX (mm_end (3 + xx) k hok (by omega) hk) (lw_V q314 q316 qs19 q22 q317) (by decide +kernel) rfl ⟨by decide, by decide⟩ 0 1 rfl rfl rfl (Nat.le_of_ble_eq_true rfl) dX1_accumulator_26 (fun r_ w_ hq_ => ?_)
    obtain ⟨rfl, hw⟩ := hq_
    rw [if_pos hw01, ex] at hret
    rcases (show k = 0 ∨ k = 1 by omega) with rfl | rfl
    · exact hret _ _ _ _ (rfl) (⟨by rw [if_pos rfl], hw⟩) dX1_accumulator_29
    · exact hret _ _ _ _ (rfl) (⟨by rw [if_neg (by decide)], hw⟩) dX1_accumulator_29
  refine ww_aload_n (pc := 0) hX dX1_accumulator_0 0 rfl ?_
  refine ww_iload_n (pc := 1) hX dX1_accumulator_1 1 rfl ?_
  refine ww_callI (pc := 2) (n := 1) (rest := []) hX (mm_thread x) (lw_V q240 q242 qs10 q22 q243) (by decide +kernel) rfl ⟨by decide, by decide⟩ 0 1 rfl rfl rfl (Nat.le_of_ble_eq_true rfl) dX1_accumulator_2 (fun r_ w_ hq_ => ?_)
  obtain ⟨rfl, rfl⟩ := hq_
  refine ww_if_eqB (pc := 5) (tgt := 17) hX dX1_accumulator_5 (by decide) (fun c1 => ?_) (fun c1 => ?_)
  · refine ww_iconst (pc := 17) (v := nI 0) hX dX1_accumulator_17 (by decide) ?_
    refine ww_goto (pc := 18) (tgt := 29) hX dX1_accumulator_18 (by decide) ?_
    exact hret _ _ _ _ (rfl) (⟨by rw [z_w01, c1]; rfl, ⟨_, _, _, _, _, _, rfl⟩⟩) dX1_accumulator_29
  · refine ww_iload_n (pc := 8) hX dX1_accumulator_8 2 rfl ?_
    refine ww_if_eq (pc := 9) (tgt := 21) hX dX1_accumulator_9 (by decide) (fun c3 => ?_) (fun c3 => ?_)
    · exact J21 c1 0 (by decide) c3
    · refine ww_iload_n (pc := 12) hX dX1_accumulator_12 2 rfl ?_
      refine ww_iconst (pc := 13) (v := nI 1) hX dX1_accumulator_13 (by decide) ?_
      refine ww_icmp_eq (pc := 14) (tgt := 21) hX dX1_accumulator_14 (by decide) (fun c4 => ?_) (fun c4 => ?_)
      · exact J21 c1 1 (by decide) c4
      · refine ww_iconst (pc := 17) (v := nI 0) hX dX1_accumulator_17 (by decide) ?_
        refine ww_goto (pc := 18) (tgt := 29) hX dX1_accumulator_18 (by decide) ?_
        exact hret _ _ _ _ (rfl) (⟨by rw [z_w01, decide_eq_false (show ¬ what = nI 0 from c3), decide_eq_false c4, Bool.or_self, Bool.and_false]; rfl, ⟨_, _, _, _, _, _, rfl⟩⟩) dX1_accumulator_29
set_option maxHeartbeats 4000000 in
set_option maxRecDepth 100000 in
/-- races -/
theorem mm_races (x : Int32) (hok : pOk P) : MI l D cB cI yX1_races cX1_races 2 (some .boolean) 4 96 [.ref (ad 0), .int x] (mW ad cI P tn tu st va pt ho) (fun r_ w_ => r_ = bI (z_ix x && decide ((z_loop P (z_fM P (x.toNatClampNeg) 0) 34650 (z_first P) (z_val (z_sta P (z_first P)) (x.toNatClampNeg))) ≠ (z_loop P (z_fM P (x.toNatClampNeg) 1) 34650 (z_first P) (z_val (z_sta P (z_first P)) (x.toNatClampNeg))))) ∧ mOK ad cI P w_) := by
  refine MI.of (by decide) (Nat.le_of_ble_eq_true rfl) ?_
  intro X eL eD hX hret
  subst eL; subst eD
  have hX : Fx X cX1_races RX1 2 4 96 cB cI := hX
  show ww X (mW ad cI P tn tu st va pt ho) [(0, .ref (ad 0)), (1, .int x)] 0 []
  refine ww_iload_n (pc := 0) hX dX1_races_0 1 rfl ?_
  refine ww_if_lt (pc := 1) (tgt := 28) hX dX1_races_1 (by decide) (fun c1 => ?_) (fun c1 => ?_)
  · refine ww_iconst (pc := 28) (v := bI false) hX dX1_races_28 (by first | decide | rfl) ?_
    exact hret _ _ _ _ (nb_b _) (⟨by rw [z_ix_f1 c1]; rfl, ⟨_, _, _, _, _, _, rfl⟩⟩) dX1_races_29
  · refine ww_iload_n (pc := 4) hX dX1_races_4 1 rfl ?_
    refine ww_iconst (pc := 5) (v := nI 2) hX dX1_races_5 (by decide) ?_
    refine ww_icmp_gt (pc := 6) (tgt := 28) hX dX1_races_6 (by decide) (fun c2 => ?_) (fun c2 => ?_)
    · refine ww_iconst (pc := 28) (v := bI false) hX dX1_races_28 (by first | decide | rfl) ?_
      exact hret _ _ _ _ (nb_b _) (⟨by rw [z_ix_f2 c2]; rfl, ⟨_, _, _, _, _, _, rfl⟩⟩) dX1_races_29
    · have hix := z_ix_t c1 c2
      obtain ⟨xx, hxx, rfl⟩ := z_ix_of hix
      have ex : (nI xx).toNatClampNeg = xx := nI_clamp (by omega)
      refine ww_aload_n (pc := 9) hX dX1_races_9 0 rfl ?_
      refine ww_iload_n (pc := 10) hX dX1_races_10 1 rfl ?_
      refine ww_iconst (pc := 11) (v := nI 0) hX dX1_races_11 (by decide) ?_
      refine ww_callI (pc := 12) (n := 2) (rest := []) hX (mm_end xx 0 hok (by omega) (by decide)) (lw_V q314 q316 qs19 q22 q317) (by decide +kernel) rfl ⟨by decide, by decide⟩ 0 1 rfl rfl rfl (Nat.le_of_ble_eq_true rfl) dX1_races_12 (fun r_ w_ hq_ => ?_)
      obtain ⟨rfl, n2, u2, s2, v2, p2, h2, rfl⟩ := hq_
      refine ww_aload_n (pc := 15) hX dX1_races_15 0 rfl ?_
      refine ww_iload_n (pc := 16) hX dX1_races_16 1 rfl ?_
      refine ww_iconst (pc := 17) (v := nI 1) hX dX1_races_17 (by decide) ?_
      refine ww_callI (pc := 18) (n := 2) (rest := [.int (z_loop P (z_fM P (xx) 0) 34650 (z_first P) (z_val (z_sta P (z_first P)) (xx)))]) hX (mm_end xx 1 hok (by omega) (by decide)) (lw_V q314 q316 qs19 q22 q317) (by decide +kernel) rfl ⟨by decide, by decide⟩ 0 1 rfl rfl rfl (Nat.le_of_ble_eq_true rfl) dX1_races_18 (fun r_ w_ hq_ => ?_)
      obtain ⟨rfl, n3, u3, s3, v3, p3, h3, rfl⟩ := hq_
      refine ww_icmp_eq (pc := 21) (tgt := 28) hX dX1_races_21 (by decide) (fun c3 => ?_) (fun c3 => ?_)
      · refine ww_iconst (pc := 28) (v := bI false) hX dX1_races_28 (by first | decide | rfl) ?_
        exact hret _ _ _ _ (nb_b _) (⟨by rw [hix, ex, decide_eq_false (fun q => q c3)]; rfl, ⟨_, _, _, _, _, _, rfl⟩⟩) dX1_races_29
      · refine ww_iconst (pc := 24) (v := bI true) hX dX1_races_24 (by first | decide | rfl) ?_
        refine ww_goto (pc := 25) (tgt := 29) hX dX1_races_25 (by decide) ?_
        exact hret _ _ _ _ (nb_b _) (⟨by rw [hix, ex, decide_eq_true c3]; rfl, ⟨_, _, _, _, _, _, rfl⟩⟩) dX1_races_29
end MF
end
section
/-! THE PLAIN LAW, 1: all complete schedules, and the order in which the reference goes through them -/
def z_br (P : Pg) (V : Zs → List (List Nat)) (g : Zs) (t : Nat) : List (List Nat) := if z_can P g.1 t = true then (V (z_stp P t g)).map (fun r => t :: r) else []
def z_lv (P : Pg) : Nat → Zs → List (List Nat)
  | 0 => fun _ => [[]]
  | n + 1 => fun g => if z_mk (z_can P g.1) = 0 then [[]] else z_br P (z_lv P n) g 0 ++ (z_br P (z_lv P n) g 1 ++ z_br P (z_lv P n) g 2)
/-- nobody can have a turn -/
def z_end (P : Pg) (g : Zs) : Prop := ∀ t, t < 3 → z_can P g.1 t = false
theorem z_lv_end {P : Pg} {n : Nat} {g : Zs} (h : z_end P g) : z_lv P n g = [[]] := by
  cases n with
  | zero => rfl
  | succ n =>
    show (if z_mk (z_can P g.1) = 0 then [[]] else _) = _
    rw [if_pos (z_mk_0.mpr h)]
theorem z_lv_go {P : Pg} {n : Nat} {g : Zs} (h : ¬ z_end P g) : z_lv P (n + 1) g = z_br P (z_lv P n) g 0 ++ (z_br P (z_lv P n) g 1 ++ z_br P (z_lv P n) g 2) := by
  show (if z_mk (z_can P g.1) = 0 then [[]] else _) = _
  rw [if_neg (fun q => h (z_mk_0.mp q))]
theorem z_end_12 {P : Pg} (hok : pOk P) {g : Zs} (h : z_in P g 12) : z_end P g := by
  intro t ht
  cases hc : z_can P g.1 t
  · rfl
  · have := z_in_le hok h ht hc
    omega
theorem z_br_mem {P : Pg} {V : Zs → List (List Nat)} {g : Zs} {t : Nat} {w : List Nat} : w ∈ z_br P V g t ↔ ∃ r, w = t :: r ∧ z_can P g.1 t = true ∧ r ∈ V (z_stp P t g) := by
  unfold z_br
  split
  · next h =>
    rw [List.mem_map]
    constructor
    · rintro ⟨r, h1, rfl⟩; exact ⟨r, rfl, h, h1⟩
    · rintro ⟨r, rfl, -, h1⟩; exact ⟨r, h1, rfl⟩
  · next h =>
    constructor
    · intro q; cases q
    · rintro ⟨r, -, h1, -⟩; exact absurd h1 h
/-- the leaves: valid and complete -/
theorem z_lv_mem {P : Pg} (hok : pOk P) : ∀ (n L : Nat) (g : Zs) (w : List Nat), n + L = 12 → z_in P g L → (w ∈ z_lv P n g ↔ z_vl P g w ∧ z_end P (z_run P g w)) := by
  intro n
  induction n with
  | zero =>
    intro L g w hn hin
    obtain rfl : L = 12 := by omega
    have he := z_end_12 hok hin
    rw [z_lv_end he, List.mem_singleton]
    constructor
    · rintro rfl; exact ⟨trivial, he⟩
    · rintro ⟨h1, h2⟩
      cases w with
      | nil => rfl
      | cons t r => exact absurd h1.2.1 (by rw [he t h1.1]; decide)
  | succ n ih =>
    intro L g w hn hin
    by_cases he : z_end P g
    · rw [z_lv_end he, List.mem_singleton]
      constructor
      · rintro rfl; exact ⟨trivial, he⟩
      · rintro ⟨h1, h2⟩
        cases w with
        | nil => rfl
        | cons t r => exact absurd h1.2.1 (by rw [he t h1.1]; decide)
    · rw [z_lv_go he, List.mem_append, List.mem_append, z_br_mem, z_br_mem, z_br_mem]
      have key : ∀ t, t < 3 → ((∃ r, w = t :: r ∧ z_can P g.1 t = true ∧ r ∈ z_lv P n (z_stp P t g)) ↔ ∃ r, w = t :: r ∧ z_can P g.1 t = true ∧ z_vl P (z_stp P t g) r ∧ z_end P (z_run P (z_stp P t g) r)) := by
        intro t ht
        constructor
        · rintro ⟨r, rfl, hc, hr⟩
          exact ⟨r, rfl, hc, (ih (L + 1) _ r (by omega) (z_in_stp hin ht hc)).mp hr⟩
        · rintro ⟨r, rfl, hc, hr⟩
          exact ⟨r, rfl, hc, (ih (L + 1) _ r (by omega) (z_in_stp hin ht hc)).mpr hr⟩
      rw [key 0 (by decide), key 1 (by decide), key 2 (by decide)]
      constructor
      · rintro (⟨r, rfl, hc, h1, h2⟩ | ⟨r, rfl, hc, h1, h2⟩ | ⟨r, rfl, hc, h1, h2⟩)
        · exact ⟨⟨by decide, hc, h1⟩, h2⟩
        · exact ⟨⟨by decide, hc, h1⟩, h2⟩
        · exact ⟨⟨by decide, hc, h1⟩, h2⟩
      · rintro ⟨h1, h2⟩
        cases w with
        | nil => exact absurd h2 he
        | cons t r =>
          obtain ⟨ht, hc, hr⟩ := h1
          rcases (show t = 0 ∨ t = 1 ∨ t = 2 by omega) with rfl | rfl | rfl
          · exact Or.inl ⟨r, rfl, hc, hr, h2⟩
          · exact Or.inr (Or.inl ⟨r, rfl, hc, hr, h2⟩)
          · exact Or.inr (Or.inr ⟨r, rfl, hc, hr, h2⟩)
/-- ls are gone through one by one by z_nx, from S on, and O comes behind the last -/
def z_seq (P : Pg) : List (List Nat) → Option (List Nat) → Option (List Nat) → Prop
  | [], O, S => S = O
  | w :: ls, O, S => S = some w ∧ z_seq P ls O (z_nx P w)
theorem z_seq_app {P : Pg} : ∀ {l1 l2 : List (List Nat)} {O M S : Option (List Nat)}, z_seq P l1 M S → z_seq P l2 O M → z_seq P (l1 ++ l2) O S
  | [], l2, O, M, S, h1, h2 => by cases h1; exact h2
  | w :: l1, l2, O, M, S, h1, h2 => ⟨h1.1, z_seq_app h1.2 h2⟩
theorem z_seq_loop {α : Type} {P : Pg} {f : List Nat → α → α} : ∀ (ls : List (List Nat)) (k : Nat) (w : List Nat) (a : α), z_seq P ls none (some w) → ls.length ≤ k → z_loop P f k w a = ls.foldl (fun a w => f w a) a
  | [], k, w, a, h, _ => by cases h
  | v :: ls, 0, w, a, h, hk => by simp at hk
  | v :: ls, k + 1, w, a, h, hk => by
    obtain ⟨h1, h2⟩ := h
    obtain rfl : w = v := Option.some.inj h1
    rw [z_loop]
    cases hx : z_nx P w with
    | none =>
      rw [hx] at h2
      cases ls with
      | nil => rfl
      | cons u ls => exact absurd h2.1 (by simp)
    | some w' =>
      rw [hx] at h2
      exact z_seq_loop ls k w' (f w a) h2 (by simp at hk; omega)
theorem z_seq_lv {P : Pg} (hok : pOk P) : ∀ (n : Nat) (u : List Nat), z_ok P u → n + u.length = 12 → z_seq P ((z_lv P n (z_sta P u)).map (fun r => u ++ r)) (z_nxr P u.reverse) (some (u ++ z_ext P n (z_sta P u))) := by
  have leaf : ∀ (n : Nat) (u : List Nat), z_end P (z_sta P u) → z_seq P ((z_lv P n (z_sta P u)).map (fun r => u ++ r)) (z_nxr P u.reverse) (some (u ++ z_ext P n (z_sta P u))) := by
    intro n u he
    have e : z_ext P n (z_sta P u) = [] := by
      cases n with
      | zero => rfl
      | succ n => rw [z_ext, z_fst_none he]
    rw [z_lv_end he, e]
    refine ⟨rfl, ?_⟩
    show z_nx P (u ++ []) = _
    rw [List.append_nil]
    rfl
  intro n
  induction n with
  | zero =>
    intro u hu hn
    refine leaf 0 u (z_end_12 hok ?_)
    have := (z_ok_in hu).1
    rwa [show u.length = 12 by omega] at this
  | succ n ih =>
    intro u hu hn
    by_cases he : z_end P (z_sta P u)
    · exact leaf (n + 1) u he
    · rw [z_lv_go he, List.map_append, List.map_append]
      -- the children
      have S3 : ∀ t, t < 3 → ∀ M : Option (List Nat), (z_can P (z_sta P u).1 t = true → z_nxr P (t :: u.reverse) = M) →
          z_seq P ((z_br P (z_lv P n) (z_sta P u) t).map (fun r => u ++ r)) M (if z_can P (z_sta P u).1 t = true then some (u ++ [t] ++ z_ext P n (z_sta P (u ++ [t]))) else M) := by
        intro t ht M hM
        unfold z_br
        split
        · next hc =>
          have h := ih (u ++ [t]) (z_ok_snoc.mpr ⟨hu, ht, hc⟩) (by simp; omega)
          rw [List.reverse_append] at h
          have h' : z_nxr P ([t].reverse ++ u.reverse) = M := hM hc
          rw [h', z_sta_app] at h
          rw [List.map_map, z_sta_app]
          have ef : ((fun r => u ++ r) ∘ fun r => t :: r) = fun r => u ++ [t] ++ r := by
            funext r
            simp
          rw [ef]
          exact h
        · exact rfl
      have hlen : u.reverse.length = u.length := List.length_reverse
      have e11 : 11 - u.length = n := by omega
      -- what comes behind a child
      have nx2 : z_nxr P (2 :: u.reverse) = z_nxr P u.reverse := by
        rw [z_nxr, z_gt, z_fst_none]
        intro s hs
        rw [decide_eq_false (by omega)]
        rfl
      have nx1 : z_nxr P (1 :: u.reverse) = if z_can P (z_sta P u).1 2 = true then some (u ++ [2] ++ z_ext P n (z_sta P (u ++ [2]))) else z_nxr P u.reverse := by
        rw [z_nxr, List.reverse_reverse, hlen, e11, z_gt]
        cases h2 : z_can P (z_sta P u).1 2
        · rw [z_fst_none, if_neg (by decide)]
          intro s hs
          rcases (show s = 0 ∨ s = 1 ∨ s = 2 by omega) with rfl | rfl | rfl
          · rfl
          · rfl
          · rw [h2]; rfl
        · rw [z_fst_some (t := 2) (by decide) (by rw [h2]; rfl), if_pos rfl]
          intro s hs
          rw [decide_eq_false (by omega)]
          rfl
      have nx0 : z_nxr P (0 :: u.reverse) = if z_can P (z_sta P u).1 1 = true then some (u ++ [1] ++ z_ext P n (z_sta P (u ++ [1]))) else if z_can P (z_sta P u).1 2 = true then some (u ++ [2] ++ z_ext P n (z_sta P (u ++ [2]))) else z_nxr P u.reverse := by
        rw [z_nxr, List.reverse_reverse, hlen, e11, z_gt]
        cases h1 : z_can P (z_sta P u).1 1
        · cases h2 : z_can P (z_sta P u).1 2
          · rw [z_fst_none, if_neg (by decide), if_neg (by decide)]
            intro s hs
            rcases (show s = 0 ∨ s = 1 ∨ s = 2 by omega) with rfl | rfl | rfl
            · rfl
            · rw [h1]; rfl
            · rw [h2]; rfl
          · rw [z_fst_some (t := 2) (by decide) (by rw [h2]; rfl), if_neg (by decide), if_pos rfl]
            intro s hs
            rcases (show s = 0 ∨ s = 1 by omega) with rfl | rfl
            · rfl
            · rw [h1]; rfl
        · rw [z_fst_some (t := 1) (by decide) (by rw [h1]; rfl), if_pos rfl]
          intro s hs
          rw [decide_eq_false (by omega)]
          rfl
      have c2 := S3 2 (by decide) (z_nxr P u.reverse) (fun _ => nx2)
      have c1 := S3 1 (by decide) _ (fun _ => nx1)
      have c0 := S3 0 (by decide) _ (fun _ => nx0)
      have hall := z_seq_app c0 (z_seq_app c1 c2)
      have es : (if z_can P (z_sta P u).1 0 = true then some (u ++ [0] ++ z_ext P n (z_sta P (u ++ [0]))) else if z_can P (z_sta P u).1 1 = true then some (u ++ [1] ++ z_ext P n (z_sta P (u ++ [1]))) else if z_can P (z_sta P u).1 2 = true then some (u ++ [2] ++ z_ext P n (z_sta P (u ++ [2]))) else z_nxr P u.reverse) = some (u ++ z_ext P (n + 1) (z_sta P u)) := by
        rw [z_ext, z_fst]
        cases h0 : z_can P (z_sta P u).1 0
        · cases h1 : z_can P (z_sta P u).1 1
          · cases h2 : z_can P (z_sta P u).1 2
            · exfalso
              refine he (fun t ht => ?_)
              rcases (show t = 0 ∨ t = 1 ∨ t = 2 by omega) with rfl | rfl | rfl
              · exact h0
              · exact h1
              · exact h2
            · simp [z_sta_app]
          · simp [z_sta_app]
        · simp [z_sta_app]
      rw [← es]
      exact hall
/-! at most 34650 -/
def z_mu : Nat → Nat → Nat → Nat → Nat
  | 0, _, _, _ => 1
  | n + 1, a, b, c => match a, b, c with
    | 0, 0, 0 => 1
    | 0, 0, c + 1 => z_mu n 0 0 c
    | 0, b + 1, 0 => z_mu n 0 b 0
    | a + 1, 0, 0 => z_mu n a 0 0
    | 0, b + 1, c + 1 => z_mu n 0 b (c + 1) + z_mu n 0 (b + 1) c
    | a + 1, 0, c + 1 => z_mu n a 0 (c + 1) + z_mu n (a + 1) 0 c
    | a + 1, b + 1, 0 => z_mu n a (b + 1) 0 + z_mu n (a + 1) b 0
    | a + 1, b + 1, c + 1 => z_mu n a (b + 1) (c + 1) + (z_mu n (a + 1) b (c + 1) + z_mu n (a + 1) (b + 1) c)
theorem z_mu_top : z_mu 12 4 4 4 = 34650 := by decide +kernel
end
section
/-! THE PLAIN LAW, 2: how many complete schedules there are; the sum over places -/
theorem z_mu_s (n x y z : Nat) : z_mu (n + 1) x y z = if x = 0 ∧ y = 0 ∧ z = 0 then 1 else (if x = 0 then 0 else z_mu n (x - 1) y z) + ((if y = 0 then 0 else z_mu n x (y - 1) z) + (if z = 0 then 0 else z_mu n x y (z - 1))) := by
  cases x <;> cases y <;> cases z <;> simp [z_mu]
theorem z_mu_pos : ∀ n x y z : Nat, 1 ≤ z_mu n x y z
  | 0, _, _, _ => Nat.le_refl _
  | n + 1, x, y, z => by
    rw [z_mu_s]
    split
    · exact Nat.le_refl _
    · next h =>
      have h0 := z_mu_pos n (x - 1) y z
      have h1 := z_mu_pos n x (y - 1) z
      have h2 := z_mu_pos n x y (z - 1)
      by_cases hx : x = 0
      · by_cases hy : y = 0
        · rw [if_neg (show ¬ z = 0 from fun q => h ⟨hx, hy, q⟩)]; omega
        · rw [if_neg hy]; omega
      · rw [if_neg hx]; omega
theorem z_lv_len {P : Pg} (hok : pOk P) : ∀ (n : Nat) (g : Zs), (∀ t, t < 3 → g.1 t ≤ 4) → (z_lv P n g).length ≤ z_mu n (4 - g.1 0) (4 - g.1 1) (4 - g.1 2)
  | 0, g, _ => Nat.le_refl _
  | n + 1, g, hg => by
    by_cases he : z_end P g
    · rw [z_lv_end he]; exact z_mu_pos _ _ _ _
    · have key : ∀ t, t < 3 → z_can P g.1 t = true → (z_lv P n (z_stp P t g)).length ≤ z_mu n (4 - (z_stp P t g).1 0) (4 - (z_stp P t g).1 1) (4 - (z_stp P t g).1 2) := by
        intro t ht hc
        refine z_lv_len hok n _ (fun s hs => ?_)
        have h1 := z_can_lt hc
        have h2 := hok.1 t
        show va_up g.1 t (g.1 t + 1) s ≤ 4
        by_cases hst : s = t
        · subst hst; rw [va_up_self]; omega
        · rw [va_up_ne _ _ hst]; exact hg s hs
      have lt4 : ∀ t, z_can P g.1 t = true → g.1 t < 4 := fun t hc => Nat.lt_of_lt_of_le (z_can_lt hc) (hok.1 t)
      have b0 : (z_br P (z_lv P n) g 0).length ≤ if 4 - g.1 0 = 0 then 0 else z_mu n (4 - g.1 0 - 1) (4 - g.1 1) (4 - g.1 2) := by
        unfold z_br
        split
        · next hc =>
          have h := key 0 (by decide) hc
          have h4 := lt4 0 hc
          rw [if_neg (by omega), List.length_map]
          simp only [z_stp, va_up_self, va_up_ne _ _ (show (1 : Nat) ≠ 0 by decide), va_up_ne _ _ (show (2 : Nat) ≠ 0 by decide)] at h
          exact h
        · exact Nat.zero_le _
      have b1 : (z_br P (z_lv P n) g 1).length ≤ if 4 - g.1 1 = 0 then 0 else z_mu n (4 - g.1 0) (4 - g.1 1 - 1) (4 - g.1 2) := by
        unfold z_br
        split
        · next hc =>
          have h := key 1 (by decide) hc
          have h4 := lt4 1 hc
          rw [if_neg (by omega), List.length_map]
          simp only [z_stp, va_up_self, va_up_ne _ _ (show (0 : Nat) ≠ 1 by decide), va_up_ne _ _ (show (2 : Nat) ≠ 1 by decide)] at h
          exact h
        · exact Nat.zero_le _
      have b2 : (z_br P (z_lv P n) g 2).length ≤ if 4 - g.1 2 = 0 then 0 else z_mu n (4 - g.1 0) (4 - g.1 1) (4 - g.1 2 - 1) := by
        unfold z_br
        split
        · next hc =>
          have h := key 2 (by decide) hc
          have h4 := lt4 2 hc
          rw [if_neg (by omega), List.length_map]
          simp only [z_stp, va_up_self, va_up_ne _ _ (show (0 : Nat) ≠ 2 by decide), va_up_ne _ _ (show (1 : Nat) ≠ 2 by decide)] at h
          exact h
        · exact Nat.zero_le _
      rw [z_lv_go he, List.length_append, List.length_append, z_mu_s]
      split
      · next h =>
        exfalso
        refine he (fun t ht => ?_)
        cases hc : z_can P g.1 t
        · rfl
        · have := lt4 t hc
          rcases (show t = 0 ∨ t = 1 ∨ t = 2 by omega) with rfl | rfl | rfl <;> omega
      · omega
def z_all (P : Pg) : List (List Nat) := z_lv P 12 (z_0 P)
theorem z_all_len {P : Pg} (hok : pOk P) : (z_all P).length ≤ 34650 := by
  have h := z_lv_len hok 12 (z_0 P) (fun t _ => Nat.zero_le _)
  have e : z_mu 12 (4 - (z_0 P).1 0) (4 - (z_0 P).1 1) (4 - (z_0 P).1 2) = 34650 := z_mu_top
  rw [e] at h
  exact h
theorem z_all_loop {α : Type} {P : Pg} (hok : pOk P) (f : List Nat → α → α) (a : α) : z_loop P f 34650 (z_first P) a = (z_all P).foldl (fun a w => f w a) a := by
  refine z_seq_loop (z_all P) 34650 (z_first P) a ?_ (z_all_len hok)
  have h := z_seq_lv hok 12 [] trivial rfl
  have e : ((z_lv P 12 (z_sta P [])).map (fun r => [] ++ r)) = z_all P := by
    rw [show (fun r : List Nat => [] ++ r) = id from rfl, List.map_id]
    rfl
  rw [e] at h
  exact h
theorem z_all_mem {P : Pg} (hok : pOk P) {w : List Nat} : w ∈ z_all P ↔ z_ok P w ∧ z_end P (z_sta P w) := z_lv_mem hok 12 0 (z_0 P) w rfl (z_0_in P)
/-! weights of the ends, by places -/
def z_nb (P : Pg) (V : (Nat → Nat) → Nat) (a : Nat → Nat) (t : Nat) : Nat := if z_can P a t = true then V (va_up a t (a t + 1)) else 0
def z_nc (P : Pg) (wt : (Nat → Nat) → Nat) : Nat → (Nat → Nat) → Nat
  | 0 => wt
  | n + 1 => fun a => if z_mk (z_can P a) = 0 then wt a else z_nb P (z_nc P wt n) a 0 + (z_nb P (z_nc P wt n) a 1 + z_nb P (z_nc P wt n) a 2)
theorem z_nc_lv {P : Pg} {wt : (Nat → Nat) → Nat} : ∀ (n : Nat) (g : Zs), ((z_lv P n g).map (fun w => wt (z_run P g w).1)).sum = z_nc P wt n g.1
  | 0, g => by simp [z_lv, z_nc, z_run]
  | n + 1, g => by
    show ((if z_mk (z_can P g.1) = 0 then [[]] else _ : List (List Nat)).map _).sum = if z_mk (z_can P g.1) = 0 then _ else _
    split
    · simp [z_run]
    · have key : ∀ t, ((z_br P (z_lv P n) g t).map (fun w => wt (z_run P g w).1)).sum = z_nb P (z_nc P wt n) g.1 t := by
        intro t
        unfold z_br z_nb
        split
        · rw [List.map_map]
          exact z_nc_lv n (z_stp P t g)
        · rfl
      rw [List.map_append, List.map_append, List.sum_append, List.sum_append, key, key, key]
theorem z_can_congr {P : Pg} {a a' : Nat → Nat} (h : ∀ i, i < 3 → a i = a' i) {t : Nat} (ht : t < 3) : z_can P a t = z_can P a' t := by
  unfold z_can
  rw [h t ht, h 0 (by decide), h 1 (by decide), h 2 (by decide)]
theorem z_nc_congr {P : Pg} {wt : (Nat → Nat) → Nat} (hwt : ∀ a a', (∀ i, i < 3 → a i = a' i) → wt a = wt a') : ∀ (n : Nat) (a a' : Nat → Nat), (∀ i, i < 3 → a i = a' i) → z_nc P wt n a = z_nc P wt n a'
  | 0, a, a', h => hwt a a' h
  | n + 1, a, a', h => by
    have ec : z_mk (z_can P a) = z_mk (z_can P a') := z_mk_congr (fun t ht => z_can_congr h ht)
    have eb : ∀ t, t < 3 → z_nb P (z_nc P wt n) a t = z_nb P (z_nc P wt n) a' t := by
      intro t ht
      unfold z_nb
      rw [z_can_congr h ht]
      split
      · refine z_nc_congr hwt n _ _ (fun i hi => ?_)
        by_cases hit : i = t
        · subst hit; rw [va_up_self, va_up_self, h i hi]
        · rw [va_up_ne _ _ hit, va_up_ne _ _ hit, h i hi]
      · rfl
    show (if z_mk (z_can P a) = 0 then _ else _) = if z_mk (z_can P a') = 0 then _ else _
    rw [ec, hwt a a' h, eb 0 (by decide), eb 1 (by decide), eb 2 (by decide)]
def z_N (P : Pg) (wt : (Nat → Nat) → Nat) (q : Nat) : Nat := z_nc P wt (12 - (q / 25 + q / 5 % 5 + q % 5)) (z_pls q)
theorem z_pls_up {q t : Nat} (hq : q < 125) (ht : t < 3) (h4 : z_pls q t < 4) : (∀ i, i < 3 → va_up (z_pls q) t (z_pls q t + 1) i = z_pls (q + z_std t) i) ∧ (q + z_std t) / 25 + (q + z_std t) / 5 % 5 + (q + z_std t) % 5 = q / 25 + q / 5 % 5 + q % 5 + 1 := by
  rcases (show t = 0 ∨ t = 1 ∨ t = 2 by omega) with rfl | rfl | rfl
  · have h4 : q / 25 < 4 := h4
    refine ⟨fun i hi => ?_, by show (q + 25) / 25 + (q + 25) / 5 % 5 + (q + 25) % 5 = _; omega⟩
    rcases (show i = 0 ∨ i = 1 ∨ i = 2 by omega) with rfl | rfl | rfl
    · rw [va_up_self]; show q / 25 + 1 = (q + 25) / 25; omega
    · rw [va_up_ne _ _ (by decide)]; show q / 5 % 5 = (q + 25) / 5 % 5; omega
    · rw [va_up_ne _ _ (by decide)]; show q % 5 = (q + 25) % 5; omega
  · have h4 : q / 5 % 5 < 4 := h4
    refine ⟨fun i hi => ?_, by show (q + 5) / 25 + (q + 5) / 5 % 5 + (q + 5) % 5 = _; omega⟩
    rcases (show i = 0 ∨ i = 1 ∨ i = 2 by omega) with rfl | rfl | rfl
    · rw [va_up_ne _ _ (by decide)]; show q / 25 = (q + 5) / 25; omega
    · rw [va_up_self]; show q / 5 % 5 + 1 = (q + 5) / 5 % 5; omega
    · rw [va_up_ne _ _ (by decide)]; show q % 5 = (q + 5) % 5; omega
  · have h4 : q % 5 < 4 := h4
    refine ⟨fun i hi => ?_, by show (q + 1) / 25 + (q + 1) / 5 % 5 + (q + 1) % 5 = _; omega⟩
    rcases (show i = 0 ∨ i = 1 ∨ i = 2 by omega) with rfl | rfl | rfl
    · rw [va_up_ne _ _ (by decide)]; show q / 25 = (q + 1) / 25; omega
    · rw [va_up_ne _ _ (by decide)]; show q / 5 % 5 = (q + 1) / 5 % 5; omega
    · rw [va_up_self]; show q % 5 + 1 = (q + 1) % 5; omega
abbrev z_Nt (P : Pg) (wt : (Nat → Nat) → Nat) (q t : Nat) : Nat := if z_can P (z_pls q) t = true then z_N P wt (q + z_std t) else 0
theorem z_N_go {P : Pg} (hok : pOk P) {wt : (Nat → Nat) → Nat} (hwt : ∀ a a', (∀ i, i < 3 → a i = a' i) → wt a = wt a') {q : Nat} (hq : q < 125) : z_N P wt q = if z_mk (z_can P (z_pls q)) = 0 then wt (z_pls q) else z_Nt P wt q 0 + (z_Nt P wt q 1 + z_Nt P wt q 2) := by
  split
  · next h =>
    unfold z_N
    cases 12 - (q / 25 + q / 5 % 5 + q % 5) with
    | zero => rfl
    | succ n =>
      show (if z_mk (z_can P (z_pls q)) = 0 then _ else _) = _
      rw [if_pos h]
  · next h =>
    have hd : ∀ t, t < 3 → z_can P (z_pls q) t = true → z_pls q t < 4 := fun t ht hc => Nat.lt_of_lt_of_le (z_can_lt hc) (hok.1 t)
    have hs : q / 25 + q / 5 % 5 + q % 5 ≤ 11 := by
      rcases Nat.lt_or_ge (q / 25 + q / 5 % 5 + q % 5) 12 with h12 | h12
      · omega
      · exfalso
        refine h (z_mk_0.mpr (fun t ht => ?_))
        cases hc : z_can P (z_pls q) t
        · rfl
        · have h4 := hd t ht hc
          rcases (show t = 0 ∨ t = 1 ∨ t = 2 by omega) with rfl | rfl | rfl
          · have h4 : q / 25 < 4 := h4; omega
          · have h4 : q / 5 % 5 < 4 := h4; omega
          · have h4 : q % 5 < 4 := h4; omega
    have eb : ∀ t, t < 3 → z_nb P (z_nc P wt (11 - (q / 25 + q / 5 % 5 + q % 5))) (z_pls q) t = z_Nt P wt q t := by
      intro t ht
      unfold z_nb z_Nt
      split
      · next hc =>
        obtain ⟨h1, h2⟩ := z_pls_up hq ht (hd t ht hc)
        unfold z_N
        rw [h2, show 12 - (q / 25 + q / 5 % 5 + q % 5 + 1) = 11 - (q / 25 + q / 5 % 5 + q % 5) by omega]
        exact z_nc_congr hwt _ _ _ h1
      · rfl
    have e : z_N P wt q = z_nc P wt (11 - (q / 25 + q / 5 % 5 + q % 5) + 1) (z_pls q) := by
      unfold z_N
      rw [show 12 - (q / 25 + q / 5 % 5 + q % 5) = 11 - (q / 25 + q / 5 % 5 + q % 5) + 1 by omega]
    rw [e]
    show (if z_mk (z_can P (z_pls q)) = 0 then _ else _) = _
    rw [if_neg h, eb 0 (by decide), eb 1 (by decide), eb 2 (by decide)]
/-! sums over the places from s on -/
def z_S (F : Nat → Nat) : Nat → Nat
  | 0 => 0
  | n + 1 => z_S F n + F n
theorem z_S_congr {F F' : Nat → Nat} : ∀ n, (∀ q, q < n → F q = F' q) → z_S F n = z_S F' n
  | 0, _ => rfl
  | n + 1, h => by rw [z_S, z_S, z_S_congr n (fun q hq => h q (by omega)), h n (by omega)]
theorem z_S_0 {F : Nat → Nat} : ∀ n, (∀ q, q < n → F q = 0) → z_S F n = 0
  | 0, _ => rfl
  | n + 1, h => by rw [z_S, z_S_0 n (fun q hq => h q (by omega)), h n (by omega)]
/-- one place more -/
theorem z_S_add {F F' : Nat → Nat} {k d : Nat} : ∀ n, k < n → (∀ q, q < n → q ≠ k → F' q = F q) → F' k = F k + d → z_S F' n = z_S F n + d
  | 0, hk, _, _ => absurd hk (by omega)
  | n + 1, hk, h, he => by
    rw [z_S, z_S]
    by_cases hkn : k = n
    · subst hkn
      rw [z_S_congr k (fun q hq => h q (by omega) (by omega)), he]
      omega
    · rw [z_S_add n (by omega) (fun q hq hqk => h q (by omega) hqk) he, h n (by omega) (fun e => hkn e.symm)]
      omega
theorem z_S_ge {F : Nat → Nat} {k : Nat} : ∀ n, k < n → F k ≤ z_S F n
  | 0, hk => absurd hk (by omega)
  | n + 1, hk => by
    rw [z_S]
    by_cases hkn : k = n
    · subst hkn; omega
    · have := z_S_ge (F := F) n (show k < n by omega)
      omega
abbrev z_F (P : Pg) (wt : (Nat → Nat) → Nat) (s : Nat) (wy : Nat → Nat) : Nat → Nat := fun q => if s ≤ q then wy q * z_N P wt q else 0
/-- the turns of threads below t out of place s -/
theorem z_S_wt {P : Pg} (hok : pOk P) {wt : (Nat → Nat) → Nat} {s : Nat} (hs : s < 125) (wy : Nat → Nat) : ∀ t, t ≤ 3 → z_S (z_F P wt (s + 1) (z_wt P s t wy)) 125 = z_S (z_F P wt (s + 1) wy) 125 + wy s * z_S (fun t => z_Nt P wt s t) t
  | 0, _ => by
    rw [show z_wt P s 0 wy = wy from rfl, show z_S (fun t => z_Nt P wt s t) 0 = 0 from rfl, Nat.mul_zero]
    exact (Nat.add_zero _).symm
  | t + 1, ht => by
    have ih := z_S_wt hok (wt := wt) hs wy t (by omega)
    rw [show z_S (fun t => z_Nt P wt s t) (t + 1) = z_S (fun t => z_Nt P wt s t) t + z_Nt P wt s t from rfl, Nat.mul_add]
    by_cases hc : z_can P (z_pls s) t = true
    · rw [show z_Nt P wt s t = z_N P wt (s + z_std t) from if_pos hc]
      by_cases h0 : 0 < wy s
      · have hp := z_std_pos t
        have hin := z_pls_in hok hs (show t < 3 by omega) hc
        rw [z_wt, if_pos ⟨h0, hc⟩]
        have hadd := z_S_add (F := z_F P wt (s + 1) (z_wt P s t wy)) (F' := z_F P wt (s + 1) (va_up (z_wt P s t wy) (s + z_std t) (z_wt P s t wy (s + z_std t) + wy s))) (k := s + z_std t) (d := wy s * z_N P wt (s + z_std t)) 125 hin (fun q hq hqk => by
          simp only [z_F]
          rw [va_up_ne _ _ hqk]) (by
          simp only [z_F]
          rw [if_pos (show s + 1 ≤ s + z_std t by omega), if_pos (show s + 1 ≤ s + z_std t by omega), va_up_self, Nat.add_mul])
        rw [hadd, ih]
        omega
      · have e0 : wy s = 0 := by omega
        rw [z_wt, if_neg (fun q => h0 q.1), ih, e0]
        simp
    · rw [show z_Nt P wt s t = 0 from if_neg hc, z_wt, if_neg (fun q => hc q.2), ih]
      simp
theorem z_any_sp {P : Pg} {s : Nat} {wy : Nat → Nat} (h0 : 0 < wy s) : ∀ t, z_any P s wy t = true ↔ ∃ u, u < t ∧ z_can P (z_pls s) u = true
  | 0 => by
    constructor
    · intro h; cases h
    · rintro ⟨u, hu, -⟩; omega
  | t + 1 => by
    rw [z_any, Bool.or_eq_true, z_any_sp h0 t, Bool.and_eq_true]
    constructor
    · rintro (⟨u, hu, hc⟩ | ⟨-, hc⟩)
      · exact ⟨u, by omega, hc⟩
      · exact ⟨t, by omega, hc⟩
    · rintro ⟨u, hu, hc⟩
      by_cases hut : u = t
      · subst hut; exact Or.inr ⟨decide_eq_true h0, hc⟩
      · exact Or.inl ⟨u, by omega, hc⟩
def z_wS (P : Pg) (sk : Bool) (a : Nat → Nat) : Nat := if (sk && decide (a 0 = pS P 0 ∧ a 1 = pS P 1 ∧ a 2 = pS P 2)) = true then 0 else 1
theorem z_wS_congr {P : Pg} {sk : Bool} : ∀ a a' : Nat → Nat, (∀ i, i < 3 → a i = a' i) → z_wS P sk a = z_wS P sk a' := by
  intro a a' h
  unfold z_wS
  rw [h 0 (by decide), h 1 (by decide), h 2 (by decide)]
theorem z_phi {P : Pg} (hok : pOk P) (sk : Bool) : ∀ s, s ≤ 125 → z_S (z_F P (z_wS P sk) s (z_wy P s)) 125 + z_sum P sk s = z_N P (z_wS P sk) 0
  | 0, _ => by
    rw [z_sum, Nat.add_zero]
    have h := z_S_add (F := fun _ => 0) (F' := z_F P (z_wS P sk) 0 (z_wy P 0)) (k := 0) (d := z_N P (z_wS P sk) 0) 125 (by decide) (fun q hq hq0 => ?_) ?_
    · rw [h, z_S_0 125 (fun _ _ => rfl), Nat.zero_add]
    · simp only [z_F]
      rw [if_pos (Nat.zero_le _), show z_wy P 0 q = 0 from if_neg hq0, Nat.zero_mul]
    · simp only [z_F]
      rw [if_pos (Nat.zero_le _), show z_wy P 0 0 = 1 from rfl]
      omega
  | s + 1, hs => by
    have ih := z_phi hok sk s (by omega)
    have hs1 : s < 125 := by omega
    have e1 : z_S (z_F P (z_wS P sk) s (z_wy P s)) 125 = z_S (z_F P (z_wS P sk) (s + 1) (z_wy P s)) 125 + z_wy P s s * z_N P (z_wS P sk) s := by
      refine z_S_add (k := s) 125 hs1 (fun q hq hqs => ?_) ?_
      · simp only [z_F]
        by_cases h : s ≤ q
        · rw [if_pos h, if_pos (by omega)]
        · rw [if_neg h, if_neg (by omega)]
      · simp only [z_F]
        rw [if_pos (Nat.le_refl _), if_neg (by omega), Nat.zero_add]
    have e2 := z_S_wt hok (wt := z_wS P sk) hs1 (z_wy P s) 3 (Nat.le_refl _)
    rw [show z_wt P s 3 (z_wy P s) = z_wy P (s + 1) from rfl] at e2
    rw [e2, z_sum, ← ih, e1]
    have e3 : z_S (fun t => z_Nt P (z_wS P sk) s t) 3 = z_Nt P (z_wS P sk) s 0 + (z_Nt P (z_wS P sk) s 1 + z_Nt P (z_wS P sk) s 2) := by
      simp only [z_S]
      omega
    have eN := z_N_go hok (wt := z_wS P sk) z_wS_congr hs1
    by_cases h0 : 0 < z_wy P s s
    · by_cases hm : z_mk (z_can P (z_pls s)) = 0
      · -- nobody can
        have ha : z_any P s (z_wy P s) 3 = false := by
          cases h : z_any P s (z_wy P s) 3
          · rfl
          · obtain ⟨u, hu, hc⟩ := (z_any_sp h0 3).mp h
            rw [z_mk_0.mp hm u hu] at hc
            cases hc
        have hn : ∀ t, t < 3 → z_Nt P (z_wS P sk) s t = 0 := fun t ht => if_neg (by rw [z_mk_0.mp hm t ht]; decide)
        rw [if_pos hm] at eN
        rw [e3, hn 0 (by decide), hn 1 (by decide), hn 2 (by decide), eN, ha, Bool.false_or]
        have ew : z_wS P sk (z_pls s) = if (sk && z_fin P s) = true then 0 else 1 := rfl
        rw [ew]
        split <;> simp <;> omega
      · have ha : z_any P s (z_wy P s) 3 = true := by
          refine (z_any_sp h0 3).mpr ?_
          cases hf : z_fst (z_can P (z_pls s)) with
          | none => exact absurd (z_mk_0.mpr (z_fst_np hf)) hm
          | some u => exact ⟨u, (z_fst_sp hf).1, (z_fst_sp hf).2.1⟩
        rw [if_neg hm] at eN
        rw [e3, eN, ha, Bool.true_or, if_pos rfl]
        omega
    · have e0 : z_wy P s s = 0 := by omega
      rw [e0]
      simp
theorem z_sum_N {P : Pg} (hok : pOk P) (sk : Bool) : z_sum P sk 125 = z_N P (z_wS P sk) 0 := by
  have h := z_phi hok sk 125 (Nat.le_refl _)
  rw [z_S_0 125 (fun q hq => if_neg (by omega)), Nat.zero_add] at h
  exact h
theorem z_N0 (P : Pg) (sk : Bool) : z_N P (z_wS P sk) 0 = ((z_all P).map (fun w => z_wS P sk (z_sta P w).1)).sum := by
  have h := z_nc_lv (P := P) (wt := z_wS P sk) 12 (z_0 P)
  rw [show ((z_all P).map (fun w => z_wS P sk (z_sta P w).1)).sum = z_nc P (z_wS P sk) 12 (z_0 P).1 from h]
  exact z_nc_congr z_wS_congr 12 _ _ (fun i hi => by
    rcases (show i = 0 ∨ i = 1 ∨ i = 2 by omega) with rfl | rfl | rfl <;> rfl)
theorem z_sum_ones {α : Type} : ∀ l : List α, (l.map (fun _ => 1)).sum = l.length
  | [] => rfl
  | a :: l => by rw [List.map_cons, List.sum_cons, z_sum_ones l, List.length_cons]; omega
theorem z_sum_all {P : Pg} (hok : pOk P) : z_sum P false 125 = (z_all P).length := by
  rw [z_sum_N hok, z_N0, ← z_sum_ones]
  rfl
theorem z_sum_le {P : Pg} (hok : pOk P) (sk : Bool) : z_sum P sk 125 ≤ 34650 := by
  rw [z_sum_N hok, z_N0]
  refine Nat.le_trans ?_ (z_all_len hok)
  have : ∀ l : List (List Nat), (l.map (fun w => z_wS P sk (z_sta P w).1)).sum ≤ l.length := by
    intro l
    induction l with
    | nil => exact Nat.le_refl _
    | cons a l ih =>
      rw [List.map_cons, List.sum_cons, List.length_cons]
      have : z_wS P sk (z_sta P a).1 ≤ 1 := by unfold z_wS; split <;> omega
      omega
  exact this _
/-- the ways stay small -/
theorem z_wy_lt {P : Pg} (hok : pOk P) : ∀ s, s < 125 → z_wy P s s < 2 ^ 31 := by
  intro s hs
  have h := z_phi hok false s (by omega)
  have h1 : z_F P (z_wS P false) s (z_wy P s) s ≤ z_S (z_F P (z_wS P false) s (z_wy P s)) 125 := z_S_ge 125 hs
  have h2 : z_N P (z_wS P false) 0 ≤ 34650 := by rw [← z_sum_N hok]; exact z_sum_le hok false
  have h3 : 1 ≤ z_N P (z_wS P false) s := by
    have pos : ∀ (n : Nat) (a : Nat → Nat), 1 ≤ z_nc P (z_wS P false) n a := by
      intro n
      induction n with
      | zero => intro a; exact Nat.le_refl _
      | succ n ih =>
        intro a
        show 1 ≤ if z_mk (z_can P a) = 0 then _ else _
        split
        · exact Nat.le_refl _
        · next hm =>
          cases hf : z_fst (z_can P a) with
          | none => exact absurd (z_mk_0.mpr (z_fst_np hf)) hm
          | some u =>
            obtain ⟨hu, hc, -⟩ := z_fst_sp hf
            have hb : 1 ≤ z_nb P (z_nc P (z_wS P false) n) a u := by
              unfold z_nb
              rw [if_pos hc]
              exact ih _
            rcases (show u = 0 ∨ u = 1 ∨ u = 2 by omega) with rfl | rfl | rfl <;> omega
    exact pos _ _
  simp only [z_F] at h1
  rw [if_pos (Nat.le_refl _)] at h1
  have h4 : z_wy P s s * 1 ≤ z_wy P s s * z_N P (z_wS P false) s := Nat.mul_le_mul_left _ h3
  omega
/-! schedules, canStick -/
theorem z_eq_sched {P : Pg} (hok : pOk P) : z_sum P false 125 = z_loop P z_fS 34650 (z_first P) 0 := by
  rw [z_all_loop hok, z_sum_all hok]
  have : ∀ (l : List (List Nat)) (n : Nat), l.foldl (fun a w => z_fS w a) n = n + l.length := by
    intro l
    induction l with
    | nil => intro n; rfl
    | cons a l ih => intro n; rw [List.foldl_cons, ih, List.length_cons, z_fS]; omega
  rw [this, Nat.zero_add]
theorem z_or_fold {α : Type} (p : α → Bool) : ∀ (l : List α) (b : Bool), l.foldl (fun b w => b || p w) b = (b || l.any p)
  | [], b => by simp
  | a :: l, b => by rw [List.foldl_cons, z_or_fold p l, List.any_cons, Bool.or_assoc]
theorem z_eq_stick {P : Pg} (hok : pOk P) : decide (0 < z_sum P true 125) = z_loop P (z_fK P) 34650 (z_first P) false := by
  rw [z_all_loop hok, z_sum_N hok, z_N0]
  have e : (fun (a : Bool) (w : List Nat) => z_fK P w a) = fun a w => a || z_stk P (z_sta P w).1 := rfl
  rw [e, z_or_fold, Bool.false_or]
  have hmem : ∀ w ∈ z_all P, z_wS P true (z_sta P w).1 = if z_stk P (z_sta P w).1 = true then 1 else 0 := by
    intro w hw
    have hin := (z_ok_in ((z_all_mem hok).mp hw).1).1
    have a0 := hin.1 0 (by decide); have a1 := hin.1 1 (by decide); have a2 := hin.1 2 (by decide)
    unfold z_wS z_stk
    rw [Bool.true_and]
    by_cases h : (z_sta P w).1 0 = pS P 0 ∧ (z_sta P w).1 1 = pS P 1 ∧ (z_sta P w).1 2 = pS P 2
    · rw [if_pos (decide_eq_true h), if_neg]
      rw [decide_eq_false (by omega), decide_eq_false (by omega), decide_eq_false (by omega)]
      decide
    · rw [if_neg (by rw [decide_eq_false h]; decide), if_pos]
      rw [Bool.or_eq_true, Bool.or_eq_true, decide_eq_true_eq, decide_eq_true_eq, decide_eq_true_eq]
      omega
  have : ∀ l : List (List Nat), (∀ w ∈ l, z_wS P true (z_sta P w).1 = if z_stk P (z_sta P w).1 = true then 1 else 0) → decide (0 < (l.map (fun w => z_wS P true (z_sta P w).1)).sum) = l.any (fun w => z_stk P (z_sta P w).1) := by
    intro l
    induction l with
    | nil => intro _; rfl
    | cons a l ih =>
      intro h
      have ih := ih (fun w hw => h w (List.mem_cons_of_mem _ hw))
      rw [List.map_cons, List.sum_cons, List.any_cons, h a List.mem_cons_self, ← ih]
      cases z_stk P (z_sta P a).1
      · simp
      · simp; omega
  exact this _ hmem
end
section
/-! THE PLAIN LAW, 3: the walk meets just the good ones among all complete schedules, in their order -/
def z_gd (P : Pg) : List Nat → Zs → (Nat → Bool) → Bool
  | [], _, _ => true
  | t :: r, g, S => !S t && z_gd P r (z_stp P t g) (z_slp P g.1 t (fun s => S s || (decide (s < t) && z_can P g.1 s)))
theorem z_vis_fold {P : Pg} {fx : Nat} {fv : Int32} {sx : Nat} {sw : Int32} : ∀ (n : Nat) (g : Zs) (S : Nat → Bool) (A : Za), z_vis P fx fv sx sw n g S A = ((z_lv P n g).filter (fun w => z_gd P w g S)).foldl (fun A w => z_arr fx fv sx sw (z_run P g w) A) A
  | 0, g, S, A => rfl
  | n + 1, g, S, A => by
    show (if z_mk (z_can P g.1) = 0 then z_arr fx fv sx sw g A else z_vt P (z_vis P fx fv sx sw n) g S A 3) = ((if z_mk (z_can P g.1) = 0 then [[]] else z_br P (z_lv P n) g 0 ++ (z_br P (z_lv P n) g 1 ++ z_br P (z_lv P n) g 2) : List (List Nat)).filter _).foldl _ A
    split
    · rfl
    · have key : ∀ (t : Nat), z_vt P (z_vis P fx fv sx sw n) g S A (t + 1) = ((z_br P (z_lv P n) g t).filter (fun w => z_gd P w g S)).foldl (fun A w => z_arr fx fv sx sw (z_run P g w) A) (z_vt P (z_vis P fx fv sx sw n) g S A t) := by
        intro t
        rw [z_vt, z_br]
        cases hc : z_can P g.1 t
        · rfl
        · rw [if_pos rfl, List.filter_map]
          cases hs : S t
          · rw [if_pos (by decide), z_vis_fold n]
            have ef : ((fun w => z_gd P w g S) ∘ fun r => t :: r) = fun r => z_gd P r (z_stp P t g) (z_slp P g.1 t (fun s => S s || (decide (s < t) && z_can P g.1 s))) := by
              funext r
              show (!S t && z_gd P r _ _) = _
              rw [hs]
              rfl
            rw [ef, List.foldl_map]
            rfl
          · have ef : ((fun w => z_gd P w g S) ∘ fun r => t :: r) = fun _ => false := by
              funext r
              show (!S t && z_gd P r _ _) = _
              rw [hs]
              rfl
            rw [ef, if_neg (by decide), List.filter_eq_nil_iff.mpr (fun _ _ => by decide)]
            rfl
      rw [List.filter_append, List.filter_append, List.foldl_append, List.foldl_append, key 2, key 1, key 0]
      rfl
end
section
/-! THE PLAIN LAW, 4: steps that don't touch can be exchanged -/
theorem z_can_iff {P : Pg} {a : Nat → Nat} {t : Nat} : z_can P a t = true ↔ a t < pS P t ∧ (pK P (t * 4 + a t) = 4 → ∀ s, s < 3 → z_hold P s (pN P (t * 4 + a t)) (a s) = false) := by
  constructor
  · intro h
    exact ⟨z_can_lt h, fun h4 => z_can_kind h h4⟩
  · rintro ⟨h1, h2⟩
    unfold z_can
    rw [decide_eq_true h1, Bool.true_and]
    by_cases h4 : pK P (t * 4 + a t) = 4
    · have h := h2 h4
      rw [h 0 (by decide), h 1 (by decide), h 2 (by decide)]
      simp
    · rw [show decide (pK P (t * 4 + a t) ≠ 4) = true from decide_eq_true h4]
      rfl
theorem z_stp_1 (P : Pg) (t : Nat) (g : Zs) : (z_stp P t g).1 = va_up g.1 t (g.1 t + 1) := rfl
/-- a step that doesn't touch s's step doesn't enable it -/
theorem z_can_back {P : Pg} {g : Zs} {t s : Nat} (hne : t ≠ s) (hs : s < 3) (hc : z_can P (z_stp P t g).1 s = true) (ht : z_tch P (t * 4 + g.1 t) (s * 4 + g.1 s) = false) : z_can P g.1 s = true := by
  have es : (z_stp P t g).1 s = g.1 s := va_up_ne _ _ (fun q => hne q.symm)
  obtain ⟨h1, h2⟩ := z_can_iff.mp hc
  rw [es] at h1 h2
  refine z_can_iff.mpr ⟨h1, fun h4 u hu => ?_⟩
  have h := h2 h4 u hu
  by_cases hut : u = t
  · subst hut
    rw [z_stp_1, va_up_self, z_hold_s] at h
    split at h
    · next hh =>
      exfalso
      have ht := of_decide_eq_false ht
      exact ht ⟨hh.1, Or.inr ⟨hh.2, by omega⟩⟩
    · exact h
  · rw [z_stp_1, va_up_ne _ _ hut] at h
    exact h
/-- nor disables it -/
theorem z_can_fwd {P : Pg} {g : Zs} {t s : Nat} (hne : t ≠ s) (hs : s < 3) (hc : z_can P g.1 s = true) (ht : z_tch P (t * 4 + g.1 t) (s * 4 + g.1 s) = false) : z_can P (z_stp P t g).1 s = true := by
  have es : (z_stp P t g).1 s = g.1 s := va_up_ne _ _ (fun q => hne q.symm)
  obtain ⟨h1, h2⟩ := z_can_iff.mp hc
  refine z_can_iff.mpr ?_
  rw [es]
  refine ⟨h1, fun h4 u hu => ?_⟩
  have h := h2 h4 u hu
  by_cases hut : u = t
  · subst hut
    rw [z_stp_1, va_up_self, z_hold_s]
    split
    · next hh =>
      exfalso
      have ht := of_decide_eq_false ht
      exact ht ⟨hh.1, Or.inr ⟨hh.2, by omega⟩⟩
    · exact h
  · rw [z_stp_1, va_up_ne _ _ hut]
    exact h
theorem z_tch_symm {P : Pg} {i j : Nat} (h : z_tch P i j = false) : z_tch P j i = false := by
  have h := of_decide_eq_false h
  refine decide_eq_false (fun q => h ⟨q.1.symm, ?_⟩)
  omega
theorem va_up_comm {α : Type} (f : Nat → α) {a b : Nat} (x y : α) (h : a ≠ b) : va_up (va_up f a x) b y = va_up (va_up f b y) a x := by
  funext j
  by_cases ha : j = a
  · subst ha
    rw [va_up_ne _ _ h, va_up_self, va_up_self]
  · by_cases hb : j = b
    · subst hb
      rw [va_up_self, va_up_ne _ _ ha, va_up_self]
    · rw [va_up_ne _ _ hb, va_up_ne _ _ ha, va_up_ne _ _ ha, va_up_ne _ _ hb]
/-- the two orders end alike -/
theorem z_stp_comm {P : Pg} (hok : pOk P) {g : Zs} {t s : Nat} (hne : t ≠ s) (ht : z_tch P (t * 4 + g.1 t) (s * 4 + g.1 s) = false) : z_stp P s (z_stp P t g) = z_stp P t (z_stp P s g) := by
  have et : (z_stp P s g).1 t = g.1 t := va_up_ne _ _ hne
  have es : (z_stp P t g).1 s = g.1 s := va_up_ne _ _ (fun q => hne q.symm)
  have ht := of_decide_eq_false ht
  obtain ⟨p, v, c⟩ := g
  simp only at ht et es
  -- the variables named are apart where it matters
  have hn : pK P (t * 4 + p t) ≤ 2 → pK P (s * 4 + p s) ≤ 2 → ¬ (pK P (t * 4 + p t) = 0 ∧ pK P (s * 4 + p s) = 0) → (pN P (t * 4 + p t)).toNatClampNeg ≠ (pN P (s * 4 + p s)).toNatClampNeg := by
    intro h1 h2 h3 q
    obtain ⟨i, hi, ei⟩ := (hok.2 (t * 4 + p t)).2.1 h1
    obtain ⟨j, hj, ej⟩ := (hok.2 (s * 4 + p s)).2.1 h2
    rw [ei, ej, nI_clamp (by omega), nI_clamp (by omega)] at q
    exact ht ⟨by rw [ei, ej, q], Or.inl ⟨h1, h2, h3⟩⟩
  have kt := (hok.2 (t * 4 + p t)).1
  have ks := (hok.2 (s * 4 + p s)).1
  generalize hi : (pN P (t * 4 + p t)).toNatClampNeg = i at hn
  generalize hj : (pN P (s * 4 + p s)).toNatClampNeg = j at hn
  have cs : ∀ x : Int32, va_up c t x s = c s := fun x => va_up_ne _ _ (fun q => hne q.symm)
  have ct : ∀ x : Int32, va_up c s x t = c t := fun x => va_up_ne _ _ hne
  have hne' : s ≠ t := fun q => hne q.symm
  unfold z_stp at et es ⊢
  simp only at et es ⊢
  simp only [et, es, hi, hj]
  refine Prod.ext ?_ (Prod.ext ?_ ?_)
  · exact va_up_comm _ _ _ hne
  · show (if pK P (s * 4 + p s) = 1 ∨ pK P (s * 4 + p s) = 2 then va_up (if pK P (t * 4 + p t) = 1 ∨ pK P (t * 4 + p t) = 2 then va_up v i (c t) else v) j ((if pK P (t * 4 + p t) = 3 then va_up c t (c t + pN P (t * 4 + p t)) else if pK P (t * 4 + p t) = 0 ∨ pK P (t * 4 + p t) = 2 then va_up c t (v i) else c) s) else (if pK P (t * 4 + p t) = 1 ∨ pK P (t * 4 + p t) = 2 then va_up v i (c t) else v)) = (if pK P (t * 4 + p t) = 1 ∨ pK P (t * 4 + p t) = 2 then va_up (if pK P (s * 4 + p s) = 1 ∨ pK P (s * 4 + p s) = 2 then va_up v j (c s) else v) i ((if pK P (s * 4 + p s) = 3 then va_up c s (c s + pN P (s * 4 + p s)) else if pK P (s * 4 + p s) = 0 ∨ pK P (s * 4 + p s) = 2 then va_up c s (v j) else c) t) else (if pK P (s * 4 + p s) = 1 ∨ pK P (s * 4 + p s) = 2 then va_up v j (c s) else v))
    have e1 : (if pK P (t * 4 + p t) = 3 then va_up c t (c t + pN P (t * 4 + p t)) else if pK P (t * 4 + p t) = 0 ∨ pK P (t * 4 + p t) = 2 then va_up c t (v i) else c) s = c s := by
      split
      · exact cs _
      · split
        · exact cs _
        · rfl
    have e2 : (if pK P (s * 4 + p s) = 3 then va_up c s (c s + pN P (s * 4 + p s)) else if pK P (s * 4 + p s) = 0 ∨ pK P (s * 4 + p s) = 2 then va_up c s (v j) else c) t = c t := by
      split
      · exact ct _
      · split
        · exact ct _
        · rfl
    rw [e1, e2]
    by_cases h1 : pK P (t * 4 + p t) = 1 ∨ pK P (t * 4 + p t) = 2
    · by_cases h2 : pK P (s * 4 + p s) = 1 ∨ pK P (s * 4 + p s) = 2
      · rw [if_pos h1, if_pos h2, if_pos h2, if_pos h1]
        exact va_up_comm _ _ _ (hn (by omega) (by omega) (by omega))
      · rw [if_pos h1, if_neg h2, if_neg h2, if_pos h1]
    · rw [if_neg h1, if_neg h1]
  · show (if pK P (s * 4 + p s) = 3 then va_up (if pK P (t * 4 + p t) = 3 then va_up c t (c t + pN P (t * 4 + p t)) else if pK P (t * 4 + p t) = 0 ∨ pK P (t * 4 + p t) = 2 then va_up c t (v i) else c) s ((if pK P (t * 4 + p t) = 3 then va_up c t (c t + pN P (t * 4 + p t)) else if pK P (t * 4 + p t) = 0 ∨ pK P (t * 4 + p t) = 2 then va_up c t (v i) else c) s + pN P (s * 4 + p s)) else if pK P (s * 4 + p s) = 0 ∨ pK P (s * 4 + p s) = 2 then va_up (if pK P (t * 4 + p t) = 3 then va_up c t (c t + pN P (t * 4 + p t)) else if pK P (t * 4 + p t) = 0 ∨ pK P (t * 4 + p t) = 2 then va_up c t (v i) else c) s ((if pK P (t * 4 + p t) = 1 ∨ pK P (t * 4 + p t) = 2 then va_up v i (c t) else v) j) else (if pK P (t * 4 + p t) = 3 then va_up c t (c t + pN P (t * 4 + p t)) else if pK P (t * 4 + p t) = 0 ∨ pK P (t * 4 + p t) = 2 then va_up c t (v i) else c)) = (if pK P (t * 4 + p t) = 3 then va_up (if pK P (s * 4 + p s) = 3 then va_up c s (c s + pN P (s * 4 + p s)) else if pK P (s * 4 + p s) = 0 ∨ pK P (s * 4 + p s) = 2 then va_up c s (v j) else c) t ((if pK P (s * 4 + p s) = 3 then va_up c s (c s + pN P (s * 4 + p s)) else if pK P (s * 4 + p s) = 0 ∨ pK P (s * 4 + p s) = 2 then va_up c s (v j) else c) t + pN P (t * 4 + p t)) else if pK P (t * 4 + p t) = 0 ∨ pK P (t * 4 + p t) = 2 then va_up (if pK P (s * 4 + p s) = 3 then va_up c s (c s + pN P (s * 4 + p s)) else if pK P (s * 4 + p s) = 0 ∨ pK P (s * 4 + p s) = 2 then va_up c s (v j) else c) t ((if pK P (s * 4 + p s) = 1 ∨ pK P (s * 4 + p s) = 2 then va_up v j (c s) else v) i) else (if pK P (s * 4 + p s) = 3 then va_up c s (c s + pN P (s * 4 + p s)) else if pK P (s * 4 + p s) = 0 ∨ pK P (s * 4 + p s) = 2 then va_up c s (v j) else c))
    -- what the loads read
    have vj : (pK P (s * 4 + p s) = 0 ∨ pK P (s * 4 + p s) = 2) → (if pK P (t * 4 + p t) = 1 ∨ pK P (t * 4 + p t) = 2 then va_up v i (c t) else v) j = v j := by
      intro h
      split
      · next h1 => exact va_up_ne _ _ (fun q => hn (by omega) (by omega) (by omega) q.symm)
      · rfl
    have vi : (pK P (t * 4 + p t) = 0 ∨ pK P (t * 4 + p t) = 2) → (if pK P (s * 4 + p s) = 1 ∨ pK P (s * 4 + p s) = 2 then va_up v j (c s) else v) i = v i := by
      intro h
      split
      · next h1 => exact va_up_ne _ _ (hn (by omega) (by omega) (by omega))
      · rfl
    by_cases s3 : pK P (s * 4 + p s) = 3
    · rw [if_pos s3, if_pos s3]
      by_cases t3 : pK P (t * 4 + p t) = 3
      · rw [if_pos t3, if_pos t3, cs, ct]
        exact va_up_comm _ _ _ hne
      · rw [if_neg t3, if_neg t3]
        by_cases t02 : pK P (t * 4 + p t) = 0 ∨ pK P (t * 4 + p t) = 2
        · rw [if_pos t02, if_pos t02, vi t02, cs]
          exact va_up_comm _ _ _ hne
        · rw [if_neg t02, if_neg t02]
    · rw [if_neg s3, if_neg s3]
      by_cases s02 : pK P (s * 4 + p s) = 0 ∨ pK P (s * 4 + p s) = 2
      · rw [if_pos s02, if_pos s02, vj s02]
        by_cases t3 : pK P (t * 4 + p t) = 3
        · rw [if_pos t3, if_pos t3, ct]
          exact va_up_comm _ _ _ hne
        · rw [if_neg t3, if_neg t3]
          by_cases t02 : pK P (t * 4 + p t) = 0 ∨ pK P (t * 4 + p t) = 2
          · rw [if_pos t02, if_pos t02, vi t02]
            exact va_up_comm _ _ _ hne
          · rw [if_neg t02, if_neg t02]
      · rw [if_neg s02, if_neg s02]
        by_cases t3 : pK P (t * 4 + p t) = 3
        · rw [if_pos t3, if_pos t3]
        · rw [if_neg t3, if_neg t3]
          by_cases t02 : pK P (t * 4 + p t) = 0 ∨ pK P (t * 4 + p t) = 2
          · rw [if_pos t02, if_pos t02, vi t02]
          · rw [if_neg t02, if_neg t02]
/-- s's next step touches none of the steps of b, and s has none among them -/
def z_ind (P : Pg) (s : Nat) : Zs → List Nat → Prop
  | _, [] => True
  | g, t :: b => (t ≠ s ∧ z_tch P (t * 4 + g.1 t) (s * 4 + g.1 s) = false) ∧ z_ind P s (z_stp P t g) b
theorem z_ind_app {P : Pg} {s : Nat} : ∀ {b c : List Nat} {g : Zs}, z_ind P s g (b ++ c) ↔ z_ind P s g b ∧ z_ind P s (z_run P g b) c
  | [], c, g => ⟨fun h => ⟨trivial, h⟩, fun h => h.2⟩
  | t :: b, c, g => by
    show (_ ∧ z_ind P s (z_stp P t g) (b ++ c)) ↔ (_ ∧ z_ind P s (z_stp P t g) b) ∧ z_ind P s (z_run P (z_stp P t g) b) c
    rw [z_ind_app (b := b)]
    constructor
    · rintro ⟨a, b, c⟩; exact ⟨⟨a, b⟩, c⟩
    · rintro ⟨⟨a, b⟩, c⟩; exact ⟨a, b, c⟩
theorem z_ind_place {P : Pg} {s : Nat} : ∀ {b : List Nat} {g : Zs}, z_ind P s g b → (z_run P g b).1 s = g.1 s
  | [], g, _ => rfl
  | t :: b, g, h => by
    show (z_run P (z_stp P t g) b).1 s = _
    rw [z_ind_place h.2]
    exact va_up_ne _ _ (fun q => h.1.1 q.symm)
theorem z_ind_can {P : Pg} {s : Nat} (hs : s < 3) : ∀ {b : List Nat} {g : Zs}, z_ind P s g b → z_can P (z_run P g b).1 s = true → z_can P g.1 s = true
  | [], g, _, h => h
  | t :: b, g, h, hc => z_can_back h.1.1 hs (z_ind_can hs h.2 hc) h.1.2
/-- s goes ahead of the block -/
theorem z_move {P : Pg} (hok : pOk P) {s : Nat} (hs : s < 3) : ∀ {b : List Nat} {g : Zs}, z_vl P g (b ++ [s]) → z_ind P s g b → z_vl P g (s :: b) ∧ z_run P g (s :: b) = z_run P g (b ++ [s])
  | [], g, h, _ => ⟨h, rfl⟩
  | t :: b, g, h, hi => by
    obtain ⟨h1, h2, h3⟩ := h
    obtain ⟨⟨k1, k2, k3⟩, e⟩ := z_move hok hs h3 hi.2
    have cs := z_can_back hi.1.1 hs k2 hi.1.2
    have ct := z_can_fwd (t := s) (s := t) (fun q => hi.1.1 q.symm) h1 h2 (z_tch_symm hi.1.2)
    have ec := z_stp_comm hok hi.1.1 hi.1.2
    refine ⟨⟨hs, cs, h1, ct, ?_⟩, ?_⟩
    · rw [← ec]; exact k3
    · show z_run P (z_stp P t (z_stp P s g)) b = z_run P (z_stp P t g) (b ++ [s])
      rw [← ec, ← e]
      rfl
/-! a smaller schedule, by its number in base 3 -/
def z_num : List Nat → Nat
  | [] => 0
  | t :: r => t * 3 ^ r.length + z_num r
theorem z_num_lt : ∀ {r : List Nat}, (∀ t ∈ r, t < 3) → z_num r < 3 ^ r.length
  | [], _ => by decide
  | t :: r, h => by
    have h1 := z_num_lt (r := r) (fun x hx => h x (List.mem_cons_of_mem _ hx))
    have h2 := h t List.mem_cons_self
    rw [z_num, List.length_cons, Nat.pow_succ]
    have h3 : t * 3 ^ r.length ≤ 2 * 3 ^ r.length := Nat.mul_le_mul_right _ (by omega)
    omega
theorem z_num_app : ∀ (u x : List Nat), z_num (u ++ x) = z_num u * 3 ^ x.length + z_num x
  | [], x => by simp [z_num]
  | t :: u, x => by
    rw [List.cons_append, z_num, z_num_app u x, z_num, List.length_append, Nat.pow_add, Nat.add_mul, Nat.mul_assoc]
    omega
theorem z_vl_lt {P : Pg} : ∀ {w : List Nat} {g : Zs}, z_vl P g w → ∀ t ∈ w, t < 3
  | [], _, _, t, h => by cases h
  | a :: w, g, h, t, ht => by
    rcases List.mem_cons.mp ht with rfl | ht
    · exact h.1
    · exact z_vl_lt h.2.2 t ht
/-- a turn that could go ahead of one of a greater thread -/
def z_BD (P : Pg) (w : List Nat) : Prop := ∃ (u b : List Nat) (s : Nat) (r : List Nat), w = u ++ (b ++ s :: r) ∧ b ≠ [] ∧ s < b.headD 0 ∧ z_ind P s (z_sta P u) b
theorem z_bd_less {P : Pg} (hok : pOk P) {w : List Nat} (hw : z_ok P w) (hb : z_BD P w) : ∃ w', z_ok P w' ∧ z_sta P w' = z_sta P w ∧ z_num w' < z_num w := by
  obtain ⟨u, b, s, r, rfl, hne, hlt, hi⟩ := hb
  have hall := z_vl_lt hw
  have hs : s < 3 := hall s (by simp)
  have e1 : u ++ (b ++ s :: r) = u ++ ((b ++ [s]) ++ r) := by simp
  rw [e1] at hw
  obtain ⟨hu, hbr⟩ := z_vl_app.mp hw
  obtain ⟨hbs, hr⟩ := z_vl_app.mp hbr
  obtain ⟨m1, m2⟩ := z_move hok hs hbs hi
  refine ⟨u ++ ((s :: b) ++ r), ?_, ?_, ?_⟩
  · refine z_vl_app.mpr ⟨hu, z_vl_app.mpr ⟨m1, ?_⟩⟩
    rw [m2]; exact hr
  · rw [e1]
    unfold z_sta
    rw [z_run_app, z_run_app, z_run_app P _ u, z_run_app P _ (b ++ [s])]
    rw [show z_run P (z_run P (z_0 P) u) (s :: b) = z_run P (z_run P (z_0 P) u) (b ++ [s]) from m2]
  · rw [z_num_app u (s :: b ++ r), z_num_app u (b ++ s :: r)]
    have hl : (s :: b ++ r).length = (b ++ s :: r).length := by simp; omega
    rw [hl]
    refine Nat.add_lt_add_left ?_ _
    cases b with
    | nil => exact absurd rfl hne
    | cons t b =>
      have hlt : s < t := hlt
      have hy : z_num (t :: b ++ r) < 3 ^ (t :: b ++ r).length := z_num_lt (fun x hx => hall x (by
        simp only [List.mem_append, List.mem_cons, List.cons_append] at hx ⊢
        rcases hx with h | h | h
        · exact Or.inr (Or.inl h)
        · exact Or.inr (Or.inr (Or.inl h))
        · exact Or.inr (Or.inr (Or.inr (Or.inr h)))))
      have hl2 : (t :: b ++ r).length = (b ++ s :: r).length := by simp; omega
      rw [show z_num (s :: (t :: b) ++ r) = s * 3 ^ (t :: b ++ r).length + z_num (t :: b ++ r) from rfl, show z_num (t :: b ++ s :: r) = t * 3 ^ (b ++ s :: r).length + z_num (b ++ s :: r) from rfl, hl2]
      rw [hl2] at hy
      have : (s + 1) * 3 ^ (b ++ s :: r).length ≤ t * 3 ^ (b ++ s :: r).length := Nat.mul_le_mul_right _ hlt
      rw [Nat.add_mul, Nat.one_mul] at this
      omega
theorem z_rep {P : Pg} (hok : pOk P) : ∀ (n : Nat) (w : List Nat), z_num w < n → z_ok P w → ∃ w', z_ok P w' ∧ z_sta P w' = z_sta P w ∧ ¬ z_BD P w'
  | 0, w, h, _ => absurd h (by omega)
  | n + 1, w, h, hw => by
    rcases Classical.em (z_BD P w) with hb | hb
    · obtain ⟨w1, a1, a2, a3⟩ := z_bd_less hok hw hb
      obtain ⟨w2, b1, b2, b3⟩ := z_rep hok n w1 (by omega) a1
      exact ⟨w2, b1, b2.trans a2, b3⟩
    · exact ⟨w, hw, rfl, hb⟩
end
section
/-! THE PLAIN LAW, 5: good = settled = no turn could go ahead of a greater thread's -/
/-- s sleeps behind u -/
def z_SS (P : Pg) (u : List Nat) (s : Nat) : Prop := ∃ (x b : List Nat), u = x ++ b ∧ b ≠ [] ∧ s < b.headD 0 ∧ z_can P (z_sta P x).1 s = true ∧ z_ind P s (z_sta P x) b
theorem z_SS_nil {P : Pg} {s : Nat} : ¬ z_SS P [] s := by
  rintro ⟨x, b, h, hb, -⟩
  have := List.append_eq_nil_iff.mp h.symm
  exact hb this.2
theorem z_run_sta (P : Pg) (x b : List Nat) : z_run P (z_sta P x) b = z_sta P (x ++ b) := by
  unfold z_sta
  rw [z_run_app]
theorem z_SS_snoc {P : Pg} {u : List Nat} {t s : Nat} : z_SS P (u ++ [t]) s ↔ (t ≠ s ∧ z_tch P (t * 4 + (z_sta P u).1 t) (s * 4 + (z_sta P u).1 s) = false) ∧ (z_SS P u s ∨ (s < t ∧ z_can P (z_sta P u).1 s = true)) := by
  constructor
  · rintro ⟨x, b, h, hb, hlt, hc, hi⟩
    rcases List.eq_nil_or_concat b with rfl | ⟨b0, l, rfl⟩
    · exact absurd rfl hb
    · rw [List.concat_eq_append] at h hb hlt hi
      rw [← List.append_assoc] at h
      obtain ⟨h1, h2⟩ := List.append_inj' h rfl
      obtain rfl : t = l := by simpa using h2
      subst h1
      obtain ⟨i1, i2, -⟩ := z_ind_app.mp hi
      rw [z_run_sta] at i2
      refine ⟨i2, ?_⟩
      cases b0 with
      | nil =>
        rw [List.append_nil]
        exact Or.inr ⟨hlt, hc⟩
      | cons a b0 => exact Or.inl ⟨x, a :: b0, rfl, by simp, hlt, hc, i1⟩
  · rintro ⟨h1, h2⟩
    rcases h2 with ⟨x, b, rfl, hb, hlt, hc, hi⟩ | ⟨hlt, hc⟩
    · refine ⟨x, b ++ [t], by rw [List.append_assoc], by simp, ?_, hc, z_ind_app.mpr ⟨hi, ?_⟩⟩
      · cases b with
        | nil => exact absurd rfl hb
        | cons a b => exact hlt
      · rw [z_run_sta]
        exact ⟨h1, trivial⟩
    · exact ⟨u, [t], rfl, by simp, hlt, hc, h1, trivial⟩
theorem z_gd_ss {P : Pg} : ∀ (r u : List Nat) (S : Nat → Bool), z_ok P (u ++ r) → (∀ s, s < 3 → (S s = true ↔ z_SS P u s)) → (z_gd P r (z_sta P u) S = true ↔ ∀ r1 s r2, r = r1 ++ s :: r2 → ¬ z_SS P (u ++ r1) s)
  | [], u, S, _, _ => by
    constructor
    · intro _ r1 s r2 h
      simp at h
    · intro _; rfl
  | t :: r, u, S, hw, hS => by
    have hw2 : z_ok P ((u ++ [t]) ++ r) := by rw [List.append_assoc]; exact hw
    have ht3 : t < 3 := z_vl_lt hw t (by simp)
    show (!S t && z_gd P r (z_stp P t (z_sta P u)) _) = true ↔ _
    rw [Bool.and_eq_true, ← z_sta_app]
    constructor
    · rintro ⟨h1, h2⟩
      have hSt : S t = false := by cases h : S t; rfl; rw [h] at h1; cases h1
      have hn : ¬ z_SS P u t := fun q => by rw [(hS t ht3).mpr q] at hSt; cases hSt
      have hS' : ∀ s, s < 3 → (z_slp P (z_sta P u).1 t (fun s => S s || (decide (s < t) && z_can P (z_sta P u).1 s)) s = true ↔ z_SS P (u ++ [t]) s) := by
        intro s hs
        rw [z_SS_snoc, ← hS s hs]
        simp only [z_slp, Bool.and_eq_true, Bool.or_eq_true, decide_eq_true_eq, Bool.not_eq_true']
        constructor
        · rintro ⟨a, b⟩
          refine ⟨⟨fun q => ?_, b⟩, a⟩
          subst q
          rcases a with a | a
          · rw [hSt] at a; cases a
          · exact absurd a.1 (by omega)
        · rintro ⟨⟨-, b⟩, a⟩; exact ⟨a, b⟩
      have h2 := (z_gd_ss r (u ++ [t]) _ hw2 hS').mp h2
      intro r1 s r2 h
      cases r1 with
      | nil =>
        obtain ⟨rfl, rfl⟩ := List.cons.inj h
        rw [List.append_nil]
        exact hn
      | cons a r1 =>
        obtain ⟨rfl, h'⟩ := List.cons.inj h
        have := h2 r1 s r2 h'
        rwa [List.append_assoc] at this
    · intro h
      have hn : ¬ z_SS P u t := by
        have := h [] t r rfl
        rwa [List.append_nil] at this
      have hSt : S t = false := by
        cases hb : S t
        · rfl
        · exact absurd ((hS t ht3).mp hb) hn
      have hS' : ∀ s, s < 3 → (z_slp P (z_sta P u).1 t (fun s => S s || (decide (s < t) && z_can P (z_sta P u).1 s)) s = true ↔ z_SS P (u ++ [t]) s) := by
        intro s hs
        rw [z_SS_snoc, ← hS s hs]
        simp only [z_slp, Bool.and_eq_true, Bool.or_eq_true, decide_eq_true_eq, Bool.not_eq_true']
        constructor
        · rintro ⟨a, b⟩
          refine ⟨⟨fun q => ?_, b⟩, a⟩
          subst q
          rcases a with a | a
          · rw [hSt] at a; cases a
          · exact absurd a.1 (by omega)
        · rintro ⟨⟨-, b⟩, a⟩; exact ⟨a, b⟩
      refine ⟨by rw [hSt]; rfl, (z_gd_ss r (u ++ [t]) _ hw2 hS').mpr (fun r1 s r2 hr => ?_)⟩
      have := h (t :: r1) s r2 (by rw [hr]; rfl)
      rwa [List.append_assoc]
theorem z_gd_BD {P : Pg} {w : List Nat} (hw : z_ok P w) : z_gd P w (z_0 P) (fun _ => false) = true ↔ ¬ z_BD P w := by
  have h := z_gd_ss w [] (fun _ => false) hw (fun s _ => ⟨(fun q => by cases q), fun q => absurd q z_SS_nil⟩)
  refine h.trans ?_
  constructor
  · rintro h ⟨u, b, s, r, rfl, hb, hlt, hi⟩
    refine h (u ++ b) s r (by simp) ⟨u, b, rfl, hb, hlt, ?_, hi⟩
    have hs : s < 3 := z_vl_lt hw s (by simp)
    have h1 : z_ok P ((u ++ b) ++ [s] ++ r) := by simpa using hw
    have h2 := (z_ok_snoc.mp (z_ok_pre h1)).2.2
    rw [← z_run_sta] at h2
    exact z_ind_can hs hi h2
  · rintro h r1 s r2 rfl ⟨x, b, e, hb, hlt, hc, hi⟩
    have e : r1 = x ++ b := e
    subst e
    exact h ⟨x, b, s, r2, by simp, hb, hlt, hi⟩
/-! settled -/
theorem z_sin_sp {P : Pg} {w : List Nat} {j : Nat} : ∀ (i : Nat) (fr ok : Bool), z_sin P w j i fr ok = true ↔ ok = true ∧ (fr = true → ∀ i', i' < i → (∀ k, i' ≤ k → k < i → z_fre P w k j = true) → ¬ w.getD j 0 < w.getD i' 0)
  | 0, fr, ok => by
    constructor
    · intro h; exact ⟨h, fun _ i' hi' => absurd hi' (by omega)⟩
    · rintro ⟨h, -⟩; exact h
  | i + 1, fr, ok => by
    rw [z_sin]
    cases fr
    · rw [if_neg (by decide)]
      constructor
      · intro h; exact ⟨h, fun q => by cases q⟩
      · rintro ⟨h, -⟩; exact h
    · rw [if_pos rfl, z_sin_sp i]
      constructor
      · rintro ⟨h1, h2⟩
        rw [Bool.and_eq_true] at h1
        refine ⟨h1.1, fun _ i' hi' hk => ?_⟩
        have hfi := hk i (by omega) (by omega)
        by_cases hii : i' = i
        · subst hii
          intro q
          have := h1.2
          rw [hfi, decide_eq_true q] at this
          cases this
        · exact h2 hfi i' (by omega) (fun k a b => hk k a (by omega))
      · rintro ⟨h1, h2⟩
        refine ⟨?_, fun hfi i' hi' hk => h2 rfl i' (by omega) (fun k a b => ?_)⟩
        · rw [h1, Bool.true_and]
          cases hfi : z_fre P w i j
          · rfl
          · rw [Bool.true_and, decide_eq_false (h2 rfl i (by omega) (fun k a b => by
              obtain rfl : k = i := by omega
              exact hfi))]
            rfl
        · by_cases hki : k = i
          · subst hki; exact hfi
          · exact hk k a (by omega)
theorem z_sout_sp {P : Pg} {w : List Nat} : ∀ n, z_sout P w n = true ↔ ∀ j, j < n → ∀ i, i < j → (∀ k, i ≤ k → k < j → z_fre P w k j = true) → ¬ w.getD j 0 < w.getD i 0
  | 0 => by
    constructor
    · intro _ j hj; omega
    · intro _; rfl
  | n + 1 => by
    rw [z_sout, z_sin_sp, z_sout_sp n]
    constructor
    · rintro ⟨h1, h2⟩ j hj
      by_cases hjn : j = n
      · subst hjn; exact h2 rfl
      · exact h1 j (by omega)
    · intro h
      exact ⟨fun j hj => h j (by omega), fun _ => h n (by omega)⟩
theorem z_getD_mid {u b : List Nat} {s : Nat} {r : List Nat} : (u ++ (b ++ s :: r)).getD (u.length + b.length) 0 = s := by
  rw [← List.append_assoc, List.getD_eq_getElem?_getD, List.getElem?_append_right (by simp)]
  simp
theorem z_take_mid {u b : List Nat} {s : Nat} {r : List Nat} : (u ++ (b ++ s :: r)).take (u.length + b.length) = u ++ b := by
  rw [← List.append_assoc]
  have : (u ++ b).length = u.length + b.length := by simp
  rw [← this, List.take_left]
/-- the block by places -/
theorem z_ind_fre {P : Pg} {s : Nat} {r : List Nat} : ∀ (b u : List Nat), z_ind P s (z_sta P u) b ↔ ∀ k, u.length ≤ k → k < u.length + b.length → z_fre P (u ++ (b ++ s :: r)) k (u.length + b.length) = true
  | [], u => by
    constructor
    · intro _ k a b; simp at b; omega
    · intro _; exact trivial
  | t :: b, u => by
    have eW : u ++ (t :: b ++ s :: r) = (u ++ [t]) ++ (b ++ s :: r) := by simp
    have eJ : u.length + (t :: b).length = (u ++ [t]).length + b.length := by simp; omega
    have eg1 : (u ++ (t :: b ++ s :: r)).getD u.length 0 = t := by
      have := z_getD_mid (u := u) (b := []) (s := t) (r := b ++ s :: r)
      simpa using this
    have et1 : (u ++ (t :: b ++ s :: r)).take u.length = u := List.take_left
    have eg2 : (u ++ (t :: b ++ s :: r)).getD (u.length + (t :: b).length) 0 = s := z_getD_mid
    have et2 : (u ++ (t :: b ++ s :: r)).take (u.length + (t :: b).length) = u ++ t :: b := z_take_mid
    have first : z_fre P (u ++ (t :: b ++ s :: r)) u.length (u.length + (t :: b).length) = (decide (t ≠ s) && !z_tch P (t * 4 + (z_sta P u).1 t) (s * 4 + (z_sta P (u ++ t :: b)).1 s)) := by
      unfold z_fre z_cell
      rw [eg1, eg2, et1, et2]
    have ih := z_ind_fre (P := P) (s := s) (r := r) b (u ++ [t])
    rw [← eW, ← eJ] at ih
    have epl : z_ind P s (z_sta P (u ++ [t])) b → t ≠ s → (z_sta P (u ++ t :: b)).1 s = (z_sta P u).1 s := by
      intro h hne
      have h1 := z_ind_place h
      rw [z_run_sta] at h1
      have e : u ++ [t] ++ b = u ++ t :: b := by simp
      rw [e] at h1
      rw [h1, z_sta_app]
      exact va_up_ne _ _ (fun q => hne q.symm)
    show (_ ∧ z_ind P s (z_stp P t (z_sta P u)) b) ↔ _
    rw [← z_sta_app]
    constructor
    · rintro ⟨⟨h1, h2⟩, h3⟩ k hk1 hk2
      by_cases hk : k = u.length
      · subst hk
        rw [first, epl h3 h1, h2, decide_eq_true h1]
        rfl
      · exact ih.mp h3 k (by simp; omega) hk2
    · intro h
      have h3 := ih.mpr (fun k hk1 hk2 => h k (by simp at hk1; omega) hk2)
      have h0 := h u.length (Nat.le_refl _) (by simp)
      rw [first, Bool.and_eq_true, decide_eq_true_eq] at h0
      have hne := h0.1
      have h2 := h0.2
      rw [epl h3 hne] at h2
      exact ⟨⟨hne, by simpa using h2⟩, h3⟩
theorem z_set_BD {P : Pg} {w : List Nat} : z_set P w = true ↔ ¬ z_BD P w := by
  rw [z_set, z_sout_sp]
  constructor
  · rintro h ⟨u, b, s, r, rfl, hb, hlt, hi⟩
    have hj : u.length + b.length < (u ++ (b ++ s :: r)).length := by rw [List.length_append, List.length_append, List.length_cons]; omega
    have hbl : 0 < b.length := List.length_pos_iff.mpr hb
    refine h (u.length + b.length) hj u.length (by omega) ((z_ind_fre b u).mp hi) ?_
    rw [z_getD_mid]
    cases b with
    | nil => exact absurd rfl hb
    | cons t b =>
      have e : (u ++ (t :: b ++ s :: r)).getD u.length 0 = t := by
        have := z_getD_mid (u := u) (b := []) (s := t) (r := b ++ s :: r)
        simpa using this
      rw [e]
      exact hlt
  · intro h j hj i hi hk hlt
    have hl1 : (w.take i).length = i := by rw [List.length_take]; omega
    have hl2 : ((w.take j).drop i).length = j - i := by rw [List.length_drop, List.length_take]; omega
    have ew : w = w.take i ++ ((w.take j).drop i ++ w.getD j 0 :: w.drop (j + 1)) := by
      have e1 : w.take j = w.take i ++ (w.take j).drop i := by
        have : (w.take j).take i = w.take i := by rw [List.take_take, Nat.min_eq_left (by omega)]
        rw [← this, List.take_append_drop]
      have e2 : w.drop j = w.getD j 0 :: w.drop (j + 1) := by
        rw [List.drop_eq_getElem_cons hj, List.getD_eq_getElem?_getD, List.getElem?_eq_getElem hj]
        rfl
      rw [← e2, ← List.append_assoc, ← e1, List.take_append_drop]
    have hj2 : (w.take i).length + ((w.take j).drop i).length = j := by rw [hl1, hl2]; omega
    refine h ⟨w.take i, (w.take j).drop i, w.getD j 0, w.drop (j + 1), ew, ?_, ?_, ?_⟩
    · intro q
      rw [q] at hl2
      simp at hl2
      omega
    · have : ((w.take j).drop i).headD 0 = w.getD i 0 := by
        rw [List.headD_eq_head?_getD, List.head?_drop, List.getElem?_take, if_pos hi, List.getD_eq_getElem?_getD]
      rw [this]
      exact hlt
    · refine (z_ind_fre (r := w.drop (j + 1)) _ _).mpr ?_
      rw [← ew, hj2, hl1]
      exact hk
end
section
/-! THE PLAIN LAW, 6: the answers are the same -/
def z_GL (P : Pg) : List (List Nat) := (z_all P).filter (fun w => z_gd P w (z_0 P) (fun _ => false))
theorem z_GL_mem {P : Pg} (hok : pOk P) {w : List Nat} : w ∈ z_GL P ↔ w ∈ z_all P ∧ ¬ z_BD P w := by
  unfold z_GL
  rw [List.mem_filter]
  constructor
  · rintro ⟨h1, h2⟩; exact ⟨h1, (z_gd_BD ((z_all_mem hok).mp h1).1).mp h2⟩
  · rintro ⟨h1, h2⟩; exact ⟨h1, (z_gd_BD ((z_all_mem hok).mp h1).1).mpr h2⟩
theorem z_GL_set {P : Pg} (hok : pOk P) : z_GL P = (z_all P).filter (z_set P) := by
  refine List.filter_congr (fun w hw => ?_)
  have h1 := z_gd_BD ((z_all_mem hok).mp hw).1
  have h2 := z_set_BD (P := P) (w := w)
  cases ha : z_gd P w (z_0 P) (fun _ => false) <;> cases hb : z_set P w
  · rfl
  · rw [hb] at h2; rw [ha] at h1; exact absurd (h1.mpr (h2.mp rfl)) (by decide)
  · rw [hb] at h2; rw [ha] at h1; exact absurd (h2.mpr (h1.mp rfl)) (by decide)
  · rfl
/-- every complete schedule has a good one with the same end -/
theorem z_GL_rep {P : Pg} (hok : pOk P) {w : List Nat} (hw : w ∈ z_all P) : ∃ w', w' ∈ z_GL P ∧ z_sta P w' = z_sta P w := by
  obtain ⟨h1, h2⟩ := (z_all_mem hok).mp hw
  obtain ⟨w', a1, a2, a3⟩ := z_rep hok (z_num w + 1) w (by omega) h1
  exact ⟨w', (z_GL_mem hok).mpr ⟨(z_all_mem hok).mpr ⟨a1, by rw [a2]; exact h2⟩, a3⟩, a2⟩
theorem z_first_mem {P : Pg} (hok : pOk P) : z_first P ∈ z_all P := by
  have h := z_seq_lv hok 12 [] trivial rfl
  have e : ((z_lv P 12 (z_sta P [])).map (fun r => [] ++ r)) = z_all P := by
    rw [show (fun r : List Nat => [] ++ r) = id from rfl, List.map_id]
    rfl
  rw [e] at h
  cases hl : z_all P with
  | nil => rw [hl] at h; cases h
  | cons w ls =>
    rw [hl] at h
    have h1 : some (z_first P) = some w := h.1
    rw [Option.some.inj h1]
    exact List.mem_cons_self
section ZE
variable {P : Pg} {fx : Nat} {fv : Int32} {sx : Nat} {sw : Int32} {qa qb qc qd : Nat → Int32}
theorem z_root_fold : z_root P fx fv sx sw qa qb qc qd = (z_GL P).foldl (fun A w => z_arr fx fv sx sw (z_sta P w) A) (false, 0, qa, qb, qc, qd) := z_vis_fold 12 (z_0 P) (fun _ => false) _
theorem z_fold_cn : ∀ (l : List (List Nat)) (A : Za), (l.foldl (fun A w => z_arr fx fv sx sw (z_sta P w) A) A).2.1 = A.2.1 + l.length
  | [], A => rfl
  | w :: l, A => by
    rw [List.foldl_cons, z_fold_cn l, List.length_cons]
    show A.2.1 + 1 + _ = _
    omega
theorem z_fold_fo : ∀ (l : List (List Nat)) (A : Za), (l.foldl (fun A w => z_arr fx fv sx sw (z_sta P w) A) A).1 = (A.1 || l.any (fun w => decide ((z_sta P w).2.1 fx = fv) && decide ((z_sta P w).2.1 sx = sw)))
  | [], A => by simp
  | w :: l, A => by
    rw [List.foldl_cons, z_fold_fo l, List.any_cons, ← Bool.or_assoc]
    rfl
theorem z_eq_cls (hok : pOk P) : (z_root P fx fv sx sw qa qb qc qd).2.1 = z_loop P (z_fC P) 34650 (z_first P) 0 := by
  rw [z_root_fold, z_fold_cn, z_all_loop hok, z_GL_set hok]
  have : ∀ (l : List (List Nat)) (n : Nat), l.foldl (fun a w => z_fC P w a) n = n + (l.filter (z_set P)).length := by
    intro l
    induction l with
    | nil => intro n; rfl
    | cons a l ih =>
      intro n
      rw [List.foldl_cons, ih, List.filter_cons, z_fC]
      split
      · rw [List.length_cons]; omega
      · rfl
  rw [this]
theorem z_eq_end (hok : pOk P) : (z_root P fx fv sx sw qa qb qc qd).1 = z_loop P (z_fE P fx fv sx sw) 34650 (z_first P) false := by
  rw [z_root_fold, z_fold_fo, z_all_loop hok]
  have e : (fun (a : Bool) (w : List Nat) => z_fE P fx fv sx sw w a) = fun a w => a || (decide ((z_sta P w).2.1 fx = fv) && decide ((z_sta P w).2.1 sx = sw)) := rfl
  rw [e, z_or_fold, Bool.false_or, Bool.false_or]
  rw [Bool.eq_iff_iff, List.any_eq_true, List.any_eq_true]
  constructor
  · rintro ⟨w, h1, h2⟩
    exact ⟨w, ((z_GL_mem hok).mp h1).1, h2⟩
  · rintro ⟨w, h1, h2⟩
    obtain ⟨w', h3, h4⟩ := z_GL_rep hok h1
    exact ⟨w', h3, by rw [h4]; exact h2⟩
end ZE
/-- the best of a run: R v q says that v is better than q -/
theorem z_best {σ : Type} {R : Int32 → Int32 → Prop} (hR1 : ∀ a, ¬ R a a) (hR2 : ∀ a b c, R a b → ¬ R c b → ¬ R c a) (hR3 : ∀ a b c, ¬ R a b → ¬ R b c → ¬ R a c) {c : σ → Nat} {q : σ → Int32} {step : σ → List Nat → σ} {val : List Nat → Int32} (hc : ∀ s w, c (step s w) ≠ 0) (h1 : ∀ s w, (c s = 0 ∨ R (val w) (q s)) → q (step s w) = val w) (h2 : ∀ s w, ¬ (c s = 0 ∨ R (val w) (q s)) → q (step s w) = q s) :
    ∀ (l : List (List Nat)) (s : σ), c s ≠ 0 → (q (l.foldl step s) = q s ∨ ∃ w ∈ l, q (l.foldl step s) = val w) ∧ ¬ R (q s) (q (l.foldl step s)) ∧ ∀ w ∈ l, ¬ R (val w) (q (l.foldl step s))
  | [], s, _ => ⟨Or.inl rfl, hR1 _, fun w h => by cases h⟩
  | w :: l, s, hs => by
    rw [List.foldl_cons]
    obtain ⟨a1, a2, a3⟩ := z_best hR1 hR2 hR3 hc h1 h2 l (step s w) (hc s w)
    by_cases hb : c s = 0 ∨ R (val w) (q s)
    · have e := h1 s w hb
      rw [e] at a1 a2
      refine ⟨Or.inr ?_, ?_, fun v hv => ?_⟩
      · rcases a1 with a1 | ⟨v, hv, a1⟩
        · exact ⟨w, List.mem_cons_self, a1⟩
        · exact ⟨v, List.mem_cons_of_mem _ hv, a1⟩
      · have hb : R (val w) (q s) := hb.resolve_left hs
        intro q1
        exact hR2 _ _ _ q1 a2 hb
      · rcases List.mem_cons.mp hv with rfl | hv
        · exact a2
        · exact a3 v hv
    · have e := h2 s w hb
      rw [e] at a1 a2
      refine ⟨?_, a2, fun v hv => ?_⟩
      · rcases a1 with a1 | ⟨v, hv, a1⟩
        · exact Or.inl a1
        · exact Or.inr ⟨v, List.mem_cons_of_mem _ hv, a1⟩
      · rcases List.mem_cons.mp hv with rfl | hv
        · exact hR3 _ _ _ (fun z => hb (Or.inr z)) a2
        · exact a3 v hv
/-- X's best over the good ones is the reference's best over all -/
theorem z_eq_best {P : Pg} (hok : pOk P) {R : Int32 → Int32 → Prop} (hR1 : ∀ a, ¬ R a a) (hR2 : ∀ a b c, R a b → ¬ R c b → ¬ R c a) (hR3 : ∀ a b c, ¬ R a b → ¬ R b c → ¬ R a c) (hR4 : ∀ a b, ¬ R a b → ¬ R b a → a = b) {val : List Nat → Int32} (hv : ∀ w w', z_sta P w = z_sta P w' → val w = val w')
    {σ : Type} {c : σ → Nat} {q : σ → Int32} {step : σ → List Nat → σ} (hc : ∀ s w, c (step s w) ≠ 0) (h1 : ∀ s w, (c s = 0 ∨ R (val w) (q s)) → q (step s w) = val w) (h2 : ∀ s w, ¬ (c s = 0 ∨ R (val w) (q s)) → q (step s w) = q s) (s0 : σ) (hs0 : c s0 = 0)
    {f : List Nat → Int32 → Int32} (f1 : ∀ w b, R (val w) b → f w b = val w) (f2 : ∀ w b, ¬ R (val w) b → f w b = b) :
    q ((z_GL P).foldl step s0) = z_loop P f 34650 (z_first P) (val (z_first P)) := by
  rw [z_all_loop hok]
  -- the reference
  obtain ⟨b1, b2, b3⟩ := z_best (σ := Int32) (c := fun _ => 1) (q := fun b => b) (step := fun b w => f w b) hR1 hR2 hR3 (fun _ _ => by decide) (fun s w h => f1 w s (h.resolve_left (by decide))) (fun s w h => f2 w s (fun z => h (Or.inr z))) (z_all P) (val (z_first P)) (by decide)
  have b4 : ∃ w ∈ z_all P, (z_all P).foldl (fun b w => f w b) (val (z_first P)) = val w := by
    rcases b1 with b1 | b1
    · exact ⟨z_first P, z_first_mem hok, b1⟩
    · exact b1
  -- the walk
  have key : (∃ w ∈ z_GL P, q ((z_GL P).foldl step s0) = val w) ∧ ∀ w ∈ z_GL P, ¬ R (val w) (q ((z_GL P).foldl step s0)) := by
    obtain ⟨w0, hw0, -⟩ := z_GL_rep hok (z_first_mem hok)
    cases hl : z_GL P with
    | nil => rw [hl] at hw0; cases hw0
    | cons w l =>
      rw [List.foldl_cons]
      obtain ⟨a1, a2, a3⟩ := z_best hR1 hR2 hR3 hc h1 h2 l (step s0 w) (hc s0 w)
      rw [h1 s0 w (Or.inl hs0)] at a1 a2
      refine ⟨?_, fun v hv => ?_⟩
      · rcases a1 with a1 | ⟨v, hv, a1⟩
        · exact ⟨w, List.mem_cons_self, a1⟩
        · exact ⟨v, List.mem_cons_of_mem _ hv, a1⟩
      · rcases List.mem_cons.mp hv with rfl | hv
        · exact a2
        · exact a3 v hv
  obtain ⟨⟨w1, m1, e1⟩, k1⟩ := key
  obtain ⟨w2, m2, e2⟩ := b4
  refine hR4 _ _ ?_ ?_
  · rw [e1]
    exact b3 w1 ((z_GL_mem hok).mp m1).1
  · rw [e2]
    obtain ⟨w3, m3, e3⟩ := z_GL_rep hok m2
    rw [← hv w3 w2 e3]
    exact k1 w3 m3
theorem i32_na {a b : Int32} : ¬ a < b ↔ b.toInt ≤ a.toInt := by rw [Int32.lt_iff_toInt_lt]; omega
theorem z_min_1 (a : Int32) : ¬ a < a := by rw [i32_na]; omega
theorem z_min_2 (a b c : Int32) (h : a < b) (h2 : ¬ c < b) : ¬ c < a := by
  rw [i32_na] at h2 ⊢
  rw [Int32.lt_iff_toInt_lt] at h
  omega
theorem z_min_3 (a b c : Int32) (h : ¬ a < b) (h2 : ¬ b < c) : ¬ a < c := by
  rw [i32_na] at h h2 ⊢
  omega
theorem z_min_4 (a b : Int32) (h : ¬ a < b) (h2 : ¬ b < a) : a = b := by
  rw [i32_na] at h h2
  exact Int32.toInt_inj.mp (by omega)
theorem z_max_2 (a b c : Int32) (h : b < a) (h2 : ¬ b < c) : ¬ a < c := by
  rw [i32_na] at h2 ⊢
  rw [Int32.lt_iff_toInt_lt] at h
  omega
section ZF
variable {P : Pg} {fx : Nat} {fv : Int32} {sx : Nat} {sw : Int32} {qa qb qc qd : Nat → Int32}
theorem z_val_v {g : Zs} {x : Nat} (hx : x < 3) : z_val g x = g.2.1 x := if_pos hx
theorem z_val_a {g : Zs} {x : Nat} : z_val g (3 + x) = g.2.2 x := by
  unfold z_val
  rw [if_neg (by omega), show 3 + x - 3 = x by omega]
theorem z_dec0 {n : Nat} : (decide (n = 0) = true) ↔ n = 0 := decide_eq_true_iff
theorem z_eq_lv (hok : pOk P) {x : Nat} (hx : x < 3) : (z_root P fx fv sx sw qa qb qc qd).2.2.1 x = z_loop P (z_fM P x 0) 34650 (z_first P) (z_val (z_sta P (z_first P)) x) := by
  rw [z_root_fold]
  refine z_eq_best hok (R := fun v q => v < q) z_min_1 z_min_2 z_min_3 z_min_4 (val := fun w => z_val (z_sta P w) x) (fun w w' h => by rw [h]) (c := fun A => A.2.1) (q := fun A : Za => A.2.2.1 x) (fun s w => Nat.succ_ne_zero _) (fun s w h => ?_) (fun s w h => ?_) _ rfl (fun w b h => ?_) (fun w b h => ?_)
  · simp only [z_val_v hx] at h ⊢
    show z_mn 3 _ _ _ x = _
    rw [z_mn, if_pos hx, if_pos (by rw [z_dec0]; exact h)]
  · simp only [z_val_v hx] at h
    show z_mn 3 _ _ _ x = _
    rw [z_mn, if_pos hx, if_neg (by rw [z_dec0]; exact h)]
  · rw [z_fM, if_pos rfl, if_pos h]
  · rw [z_fM, if_pos rfl, if_neg h]
theorem z_eq_mv (hok : pOk P) {x : Nat} (hx : x < 3) : (z_root P fx fv sx sw qa qb qc qd).2.2.2.1 x = z_loop P (z_fM P x 1) 34650 (z_first P) (z_val (z_sta P (z_first P)) x) := by
  rw [z_root_fold]
  refine z_eq_best hok (R := fun v q => q < v) z_min_1 z_max_2 (fun a b c h1 h2 => z_min_3 c b a h2 h1) (fun a b h1 h2 => z_min_4 a b h2 h1) (val := fun w => z_val (z_sta P w) x) (fun w w' h => by rw [h]) (c := fun A => A.2.1) (q := fun A : Za => A.2.2.2.1 x) (fun s w => Nat.succ_ne_zero _) (fun s w h => ?_) (fun s w h => ?_) _ rfl (fun w b h => ?_) (fun w b h => ?_)
  · simp only [z_val_v hx] at h ⊢
    show z_mx 3 _ _ _ x = _
    rw [z_mx, if_pos hx, if_pos (by rw [z_dec0]; exact h)]
  · simp only [z_val_v hx] at h
    show z_mx 3 _ _ _ x = _
    rw [z_mx, if_pos hx, if_neg (by rw [z_dec0]; exact h)]
  · rw [z_fM, if_neg (by decide), if_pos h]
  · rw [z_fM, if_neg (by decide), if_neg h]
theorem z_eq_la (hok : pOk P) {x : Nat} (hx : x < 3) : (z_root P fx fv sx sw qa qb qc qd).2.2.2.2.1 x = z_loop P (z_fM P (3 + x) 0) 34650 (z_first P) (z_val (z_sta P (z_first P)) (3 + x)) := by
  rw [z_root_fold]
  refine z_eq_best hok (R := fun v q => v < q) z_min_1 z_min_2 z_min_3 z_min_4 (val := fun w => z_val (z_sta P w) (3 + x)) (fun w w' h => by rw [h]) (c := fun A => A.2.1) (q := fun A : Za => A.2.2.2.2.1 x) (fun s w => Nat.succ_ne_zero _) (fun s w h => ?_) (fun s w h => ?_) _ rfl (fun w b h => ?_) (fun w b h => ?_)
  · simp only [z_val_a] at h ⊢
    show z_mn 3 _ _ _ x = _
    rw [z_mn, if_pos hx, if_pos (by rw [z_dec0]; exact h)]
  · simp only [z_val_a] at h
    show z_mn 3 _ _ _ x = _
    rw [z_mn, if_pos hx, if_neg (by rw [z_dec0]; exact h)]
  · rw [z_fM, if_pos rfl, if_pos h]
  · rw [z_fM, if_pos rfl, if_neg h]
theorem z_eq_ma (hok : pOk P) {x : Nat} (hx : x < 3) : (z_root P fx fv sx sw qa qb qc qd).2.2.2.2.2 x = z_loop P (z_fM P (3 + x) 1) 34650 (z_first P) (z_val (z_sta P (z_first P)) (3 + x)) := by
  rw [z_root_fold]
  refine z_eq_best hok (R := fun v q => q < v) z_min_1 z_max_2 (fun a b c h1 h2 => z_min_3 c b a h2 h1) (fun a b h1 h2 => z_min_4 a b h2 h1) (val := fun w => z_val (z_sta P w) (3 + x)) (fun w w' h => by rw [h]) (c := fun A => A.2.1) (q := fun A : Za => A.2.2.2.2.2 x) (fun s w => Nat.succ_ne_zero _) (fun s w h => ?_) (fun s w h => ?_) _ rfl (fun w b h => ?_) (fun w b h => ?_)
  · simp only [z_val_a] at h ⊢
    show z_mx 3 _ _ _ x = _
    rw [z_mx, if_pos hx, if_pos (by rw [z_dec0]; exact h)]
  · simp only [z_val_a] at h
    show z_mx 3 _ _ _ x = _
    rw [z_mx, if_pos hx, if_neg (by rw [z_dec0]; exact h)]
  · rw [z_fM, if_neg (by decide), if_pos h]
  · rw [z_fM, if_neg (by decide), if_neg h]
end ZF
end
section
set_option maxHeartbeats 4000000 in
set_option maxRecDepth 100000 in
/-- the constructor of ScheduleReducer: 15 arrays of 313 places in all -/
theorem xm_init (l : Launch) (D : va_G) (h0 sz : Nat) : Met l yX0_init (ws_ yX0_init cX0_init 1 none) ({ frames := 1, cells := 15, slots := 313, locals := 12 }) (va_Pc [.ref h0] (fun U => U.heap.size = sz ∧ va_P D vwCl [(h0, .inr (0, [.null, .null, .null, .null, .null, .null, .null, .null, .null, .null, .null, .int 0, .int 0, .int 0, .int 0, .int 0, .int 0, .int 0, .null, .null, .null, .null]))] U.heap ∧ va_K D vwCl [] U ∧ va_D (fun _ => True) [(h0, .inr (0, [.null, .null, .null, .null, .null, .null, .null, .null, .null, .null, .null, .int 0, .int 0, .int 0, .int 0, .int 0, .int 0, .int 0, .null, .null, .null, .null]))])) (va_Qv (S := ((Nat → Nat) × ClassId × ClassId)) (fun u => u.1 0 = h0) (fun u t => va_P D vwCl (xW u.1 u.2.1 u.2.2 ((fun _ => 0, fun _ => 0, fun _ => 0, fun _ => 0, fun _ => 0) : Pg) (fun _ => 0) (fun _ => 0) (fun _ => 0) (fun _ => 0) (fun _ => 0) (fun _ => 0) false 0 0 0 0 false 0 (fun _ => 0) (fun _ => 0) (fun _ => 0) (fun _ => 0)) t.heap ∧ va_K D vwCl (ty2 u.2.1 u.2.2) t ∧ va_D (va_A [(h0, .inr (0, [.null, .null, .null, .null, .null, .null, .null, .null, .null, .null, .null, .int 0, .int 0, .int 0, .int 0, .int 0, .int 0, .int 0, .null, .null, .null, .null]))] sz) (xW u.1 u.2.1 u.2.2 ((fun _ => 0, fun _ => 0, fun _ => 0, fun _ => 0, fun _ => 0) : Pg) (fun _ => 0) (fun _ => 0) (fun _ => 0) (fun _ => 0) (fun _ => 0) (fun _ => 0) false 0 0 0 0 false 0 (fun _ => 0) (fun _ => 0) (fun _ => 0) (fun _ => 0))) (va_A [(h0, .inr (0, [.null, .null, .null, .null, .null, .null, .null, .null, .null, .null, .null, .int 0, .int 0, .int 0, .int 0, .int 0, .int 0, .int 0, .null, .null, .null, .null]))] sz)) 15 313 (va_A [(h0, .inr (0, [.null, .null, .null, .null, .null, .null, .null, .null, .null, .null, .null, .int 0, .int 0, .int 0, .int 0, .int 0, .int 0, .int 0, .null, .null, .null, .null]))] sz) := by
  refine Met.ofW (cc := cX0_init) (maxL := 1) (ret := none) (by decide) rfl ?_
  intro p e s m args below meth c s₁ B hml hv
  obtain ⟨rfl, hsz, hP, hK, hD0⟩ := hv
  have hx := B.exec
  have hb := B.bytes
  have hr := B.returns
  have hts := atoms_spec (ws := ws_ yX0_init cX0_init 1 none) B.pre
  have hts : ∀ w ∈ lw_all, w.before _ s = true := fun w h => hts w (List.mem_cons_of_mem _ h)
  have hown : s.vm.findClass RX0 = some m.cls := findClass_of_methodNamed B.named
  have hlocks := B.notSynchronized
  have hin : meth.name = "<init>" := (name_of_methodNamed B.named B.method).1
  subst hsz
  have hD := hD0.self (sz := s.heap.size)
  generalize hAe : va_A [(h0, .inr (0, [.null, .null, .null, .null, .null, .null, .null, .null, .null, .null, .null, .int 0, .int 0, .int 0, .int 0, .int 0, .int 0, .int 0, .null, .null, .null, .null]))] s.heap.size = A at hD ⊢
  have hA : ∀ q : Nat, s.heap.size ≤ q → A q := fun q h => by rw [← hAe]; exact Or.inr h
  have hS : va_S A s.heap s.heap [] := va_S.rf
  have hP : va_P D vwCl [(h0, .inr (0, [.null, .null, .null, .null, .null, .null, .null, .null, .null, .null, .null, .int 0, .int 0, .int 0, .int 0, .int 0, .int 0, .int 0, .null, .null, .null, .null]))] s.heap := hP
  have hl := lv_entry ([.ref h0]) (n := 1) (Nat.le_of_ble_eq_true rfl)
  rw [lg_entry_eq]
  generalize (lg_sl ([.ref h0]) ++ List.replicate (1 - (lg_sl ([.ref h0])).length) Slot.unset).toArray = ls at hl ⊢
  have hl : lv_has ls 1 [(0, .ref h0)] := hl
  refine lv_aload_n hx hb dX0_init_0 rfl (lv_at hl 0 rfl) ?_
  refine W.objInit hx hb hown (hts _ q28) (hts _ q29) (hts _ q30) rfl (by rw [hml]; exact hl.1) rfl dX0_init_1 (Nat.le_of_ble_eq_true rfl) (Nat.le_of_ble_eq_true rfl) ?_
  refine W.eq (g2 := F0 m 4 ls []) rfl ?_
  refine lv_aload_n hx hb dX0_init_4 rfl (lv_at hl 0 rfl) ?_
  refine lv_iconst (v := nI 3) hx hb dX0_init_5 (by decide) ?_
  refine va_newa (atype := .byte) (a0 := (3, .inl (fun _ => 0))) (ty := .byte) (N' := 3) hx hb (hts _ q98) rfl hK hP hD hS hA (fun _ => rfl) (by decide) (by decide) (by decide) (Nat.le_of_ble_eq_true rfl) (Nat.le_of_ble_eq_true rfl) dX0_init_6 (fun a1 cB H hK hP hD hS => ?_)
  have hK : va_K D vwCl [(cB, .byte)] s := hK
  have hP : va_P D vwCl [(h0, .inr (0, [.null, .null, .null, .null, .null, .null, .null, .null, .null, .null, .null, .int 0, .int 0, .int 0, .int 0, .int 0, .int 0, .int 0, .null, .null, .null, .null])), (a1, .inl (cB, 3, .inl (fun _ => 0)))] H := hP
  have hD : va_D A [(h0, .inr (0, [.null, .null, .null, .null, .null, .null, .null, .null, .null, .null, .null, .int 0, .int 0, .int 0, .int 0, .int 0, .int 0, .int 0, .null, .null, .null, .null])), (a1, .inl (cB, 3, .inl (fun _ => 0)))] := hD
  refine va_putF (D := D) (ci := 0) (v := .ref a1) (ty := tyX0 0) (C := RX0) (T := TX0) (N := 22) hx hb hts in_X0 tyX0 tyX0_ok nmX0 hown hK hP hD hS 0 rfl rfl 0 (by decide) (hts _ q31) (fun _ h9 => h9) rfl hin rfl (tyX0_ok 0 (by decide)) rfl rfl (Nat.le_of_ble_eq_true rfl) dX0_init_8 (fun H locs hP hD hS => ?_)
  have hP : va_P D vwCl [(h0, .inr (0, [.ref a1, .null, .null, .null, .null, .null, .null, .null, .null, .null, .null, .int 0, .int 0, .int 0, .int 0, .int 0, .int 0, .int 0, .null, .null, .null, .null])), (a1, .inl (cB, 3, .inl (fun _ => 0)))] H := hP
  have hD : va_D A [(h0, .inr (0, [.ref a1, .null, .null, .null, .null, .null, .null, .null, .null, .null, .null, .int 0, .int 0, .int 0, .int 0, .int 0, .int 0, .int 0, .null, .null, .null, .null])), (a1, .inl (cB, 3, .inl (fun _ => 0)))] := hD
  refine lv_aload_n hx hb dX0_init_11 rfl (lv_at hl 0 rfl) ?_
  refine lv_bipush (v := nI 12) hx hb dX0_init_12 (by decide) ?_
  refine va_newa (atype := .byte) (a0 := (12, .inl (fun _ => 0))) (ty := .byte) (N' := 12) hx hb (hts _ q98) rfl hK hP hD hS hA (fun _ => rfl) (by decide) (by decide) (by decide) (Nat.le_of_ble_eq_true rfl) (Nat.le_of_ble_eq_true rfl) dX0_init_14 (fun a2 k2 H hK hP hD hS => ?_)
  have e1 : cB = k2 := Option.some.inj ((hK.2 0 _ rfl).2.symm.trans (hK.2 1 _ rfl).2)
  subst e1
  have hK : va_K D vwCl [(cB, .byte)] s := hK.sub [0] rfl
  have hP : va_P D vwCl [(h0, .inr (0, [.ref a1, .null, .null, .null, .null, .null, .null, .null, .null, .null, .null, .int 0, .int 0, .int 0, .int 0, .int 0, .int 0, .int 0, .null, .null, .null, .null])), (a1, .inl (cB, 3, .inl (fun _ => 0))), (a2, .inl (cB, 12, .inl (fun _ => 0)))] H := hP
  have hD : va_D A [(h0, .inr (0, [.ref a1, .null, .null, .null, .null, .null, .null, .null, .null, .null, .null, .int 0, .int 0, .int 0, .int 0, .int 0, .int 0, .int 0, .null, .null, .null, .null])), (a1, .inl (cB, 3, .inl (fun _ => 0))), (a2, .inl (cB, 12, .inl (fun _ => 0)))] := hD
  refine va_putF (D := D) (ci := 0) (v := .ref a2) (ty := tyX0 1) (C := RX0) (T := TX0) (N := 22) hx hb hts in_X0 tyX0 tyX0_ok nmX0 hown hK hP hD hS 0 rfl rfl 1 (by decide) (hts _ q32) (fun _ h9 => h9) rfl hin rfl (tyX0_ok 1 (by decide)) rfl rfl (Nat.le_of_ble_eq_true rfl) dX0_init_16 (fun H locs hP hD hS => ?_)
  have hP : va_P D vwCl [(h0, .inr (0, [.ref a1, .ref a2, .null, .null, .null, .null, .null, .null, .null, .null, .null, .int 0, .int 0, .int 0, .int 0, .int 0, .int 0, .int 0, .null, .null, .null, .null])), (a1, .inl (cB, 3, .inl (fun _ => 0))), (a2, .inl (cB, 12, .inl (fun _ => 0)))] H := hP
  have hD : va_D A [(h0, .inr (0, [.ref a1, .ref a2, .null, .null, .null, .null, .null, .null, .null, .null, .null, .int 0, .int 0, .int 0, .int 0, .int 0, .int 0, .int 0, .null, .null, .null, .null])), (a1, .inl (cB, 3, .inl (fun _ => 0))), (a2, .inl (cB, 12, .inl (fun _ => 0)))] := hD
  refine lv_aload_n hx hb dX0_init_19 rfl (lv_at hl 0 rfl) ?_
  refine lv_bipush (v := nI 12) hx hb dX0_init_20 (by decide) ?_
  refine va_newa (atype := .int) (a0 := (12, .inl (fun _ => 0))) (ty := .int) (N' := 12) hx hb (hts _ q99) rfl hK hP hD hS hA (fun _ => rfl) (by decide) (by decide) (by decide) (Nat.le_of_ble_eq_true rfl) (Nat.le_of_ble_eq_true rfl) dX0_init_22 (fun a3 cI H hK hP hD hS => ?_)
  have hK : va_K D vwCl [(cB, .byte), (cI, .int)] s := hK
  have hP : va_P D vwCl [(h0, .inr (0, [.ref a1, .ref a2, .null, .null, .null, .null, .null, .null, .null, .null, .null, .int 0, .int 0, .int 0, .int 0, .int 0, .int 0, .int 0, .null, .null, .null, .null])), (a1, .inl (cB, 3, .inl (fun _ => 0))), (a2, .inl (cB, 12, .inl (fun _ => 0))), (a3, .inl (cI, 12, .inl (fun _ => 0)))] H := hP
  have hD : va_D A [(h0, .inr (0, [.ref a1, .ref a2, .null, .null, .null, .null, .null, .null, .null, .null, .null, .int 0, .int 0, .int 0, .int 0, .int 0, .int 0, .int 0, .null, .null, .null, .null])), (a1, .inl (cB, 3, .inl (fun _ => 0))), (a2, .inl (cB, 12, .inl (fun _ => 0))), (a3, .inl (cI, 12, .inl (fun _ => 0)))] := hD
  refine va_putF (D := D) (ci := 0) (v := .ref a3) (ty := tyX0 2) (C := RX0) (T := TX0) (N := 22) hx hb hts in_X0 tyX0 tyX0_ok nmX0 hown hK hP hD hS 0 rfl rfl 2 (by decide) (hts _ q33) (fun _ h9 => h9) rfl hin rfl (tyX0_ok 2 (by decide)) rfl rfl (Nat.le_of_ble_eq_true rfl) dX0_init_24 (fun H locs hP hD hS => ?_)
  have hP : va_P D vwCl [(h0, .inr (0, [.ref a1, .ref a2, .ref a3, .null, .null, .null, .null, .null, .null, .null, .null, .int 0, .int 0, .int 0, .int 0, .int 0, .int 0, .int 0, .null, .null, .null, .null])), (a1, .inl (cB, 3, .inl (fun _ => 0))), (a2, .inl (cB, 12, .inl (fun _ => 0))), (a3, .inl (cI, 12, .inl (fun _ => 0)))] H := hP
  have hD : va_D A [(h0, .inr (0, [.ref a1, .ref a2, .ref a3, .null, .null, .null, .null, .null, .null, .null, .null, .int 0, .int 0, .int 0, .int 0, .int 0, .int 0, .int 0, .null, .null, .null, .null])), (a1, .inl (cB, 3, .inl (fun _ => 0))), (a2, .inl (cB, 12, .inl (fun _ => 0))), (a3, .inl (cI, 12, .inl (fun _ => 0)))] := hD
  refine lv_aload_n hx hb dX0_init_27 rfl (lv_at hl 0 rfl) ?_
  refine lv_iconst (v := nI 3) hx hb dX0_init_28 (by decide) ?_
  refine va_newa (atype := .int) (a0 := (3, .inl (fun _ => 0))) (ty := .int) (N' := 3) hx hb (hts _ q99) rfl hK hP hD hS hA (fun _ => rfl) (by decide) (by decide) (by decide) (Nat.le_of_ble_eq_true rfl) (Nat.le_of_ble_eq_true rfl) dX0_init_29 (fun a4 k4 H hK hP hD hS => ?_)
  have e3 : cI = k4 := Option.some.inj ((hK.2 1 _ rfl).2.symm.trans (hK.2 2 _ rfl).2)
  subst e3
  have hK : va_K D vwCl [(cB, .byte), (cI, .int)] s := hK.sub [0, 1] rfl
  have hP : va_P D vwCl [(h0, .inr (0, [.ref a1, .ref a2, .ref a3, .null, .null, .null, .null, .null, .null, .null, .null, .int 0, .int 0, .int 0, .int 0, .int 0, .int 0, .int 0, .null, .null, .null, .null])), (a1, .inl (cB, 3, .inl (fun _ => 0))), (a2, .inl (cB, 12, .inl (fun _ => 0))), (a3, .inl (cI, 12, .inl (fun _ => 0))), (a4, .inl (cI, 3, .inl (fun _ => 0)))] H := hP
  have hD : va_D A [(h0, .inr (0, [.ref a1, .ref a2, .ref a3, .null, .null, .null, .null, .null, .null, .null, .null, .int 0, .int 0, .int 0, .int 0, .int 0, .int 0, .int 0, .null, .null, .null, .null])), (a1, .inl (cB, 3, .inl (fun _ => 0))), (a2, .inl (cB, 12, .inl (fun _ => 0))), (a3, .inl (cI, 12, .inl (fun _ => 0))), (a4, .inl (cI, 3, .inl (fun _ => 0)))] := hD
  refine va_putF (D := D) (ci := 0) (v := .ref a4) (ty := tyX0 3) (C := RX0) (T := TX0) (N := 22) hx hb hts in_X0 tyX0 tyX0_ok nmX0 hown hK hP hD hS 0 rfl rfl 3 (by decide) (hts _ q34) (fun _ h9 => h9) rfl hin rfl (tyX0_ok 3 (by decide)) rfl rfl (Nat.le_of_ble_eq_true rfl) dX0_init_31 (fun H locs hP hD hS => ?_)
  have hP : va_P D vwCl [(h0, .inr (0, [.ref a1, .ref a2, .ref a3, .ref a4, .null, .null, .null, .null, .null, .null, .null, .int 0, .int 0, .int 0, .int 0, .int 0, .int 0, .int 0, .null, .null, .null, .null])), (a1, .inl (cB, 3, .inl (fun _ => 0))), (a2, .inl (cB, 12, .inl (fun _ => 0))), (a3, .inl (cI, 12, .inl (fun _ => 0))), (a4, .inl (cI, 3, .inl (fun _ => 0)))] H := hP
  have hD : va_D A [(h0, .inr (0, [.ref a1, .ref a2, .ref a3, .ref a4, .null, .null, .null, .null, .null, .null, .null, .int 0, .int 0, .int 0, .int 0, .int 0, .int 0, .int 0, .null, .null, .null, .null])), (a1, .inl (cB, 3, .inl (fun _ => 0))), (a2, .inl (cB, 12, .inl (fun _ => 0))), (a3, .inl (cI, 12, .inl (fun _ => 0))), (a4, .inl (cI, 3, .inl (fun _ => 0)))] := hD
  refine lv_aload_n hx hb dX0_init_34 rfl (lv_at hl 0 rfl) ?_
  refine lv_iconst (v := nI 3) hx hb dX0_init_35 (by decide) ?_
  refine va_newa (atype := .int) (a0 := (3, .inl (fun _ => 0))) (ty := .int) (N' := 3) hx hb (hts _ q99) rfl hK hP hD hS hA (fun _ => rfl) (by decide) (by decide) (by decide) (Nat.le_of_ble_eq_true rfl) (Nat.le_of_ble_eq_true rfl) dX0_init_36 (fun a5 k5 H hK hP hD hS => ?_)
  have e4 : cI = k5 := Option.some.inj ((hK.2 1 _ rfl).2.symm.trans (hK.2 2 _ rfl).2)
  subst e4
  have hK : va_K D vwCl [(cB, .byte), (cI, .int)] s := hK.sub [0, 1] rfl
  have hP : va_P D vwCl [(h0, .inr (0, [.ref a1, .ref a2, .ref a3, .ref a4, .null, .null, .null, .null, .null, .null, .null, .int 0, .int 0, .int 0, .int 0, .int 0, .int 0, .int 0, .null, .null, .null, .null])), (a1, .inl (cB, 3, .inl (fun _ => 0))), (a2, .inl (cB, 12, .inl (fun _ => 0))), (a3, .inl (cI, 12, .inl (fun _ => 0))), (a4, .inl (cI, 3, .inl (fun _ => 0))), (a5, .inl (cI, 3, .inl (fun _ => 0)))] H := hP
  have hD : va_D A [(h0, .inr (0, [.ref a1, .ref a2, .ref a3, .ref a4, .null, .null, .null, .null, .null, .null, .null, .int 0, .int 0, .int 0, .int 0, .int 0, .int 0, .int 0, .null, .null, .null, .null])), (a1, .inl (cB, 3, .inl (fun _ => 0))), (a2, .inl (cB, 12, .inl (fun _ => 0))), (a3, .inl (cI, 12, .inl (fun _ => 0))), (a4, .inl (cI, 3, .inl (fun _ => 0))), (a5, .inl (cI, 3, .inl (fun _ => 0)))] := hD
  refine va_putF (D := D) (ci := 0) (v := .ref a5) (ty := tyX0 4) (C := RX0) (T := TX0) (N := 22) hx hb hts in_X0 tyX0 tyX0_ok nmX0 hown hK hP hD hS 0 rfl rfl 4 (by decide) (hts _ q35) (fun _ h9 => h9) rfl hin rfl (tyX0_ok 4 (by decide)) rfl rfl (Nat.le_of_ble_eq_true rfl) dX0_init_38 (fun H locs hP hD hS => ?_)
  have hP : va_P D vwCl [(h0, .inr (0, [.ref a1, .ref a2, .ref a3, .ref a4, .ref a5, .null, .null, .null, .null, .null, .null, .int 0, .int 0, .int 0, .int 0, .int 0, .int 0, .int 0, .null, .null, .null, .null])), (a1, .inl (cB, 3, .inl (fun _ => 0))), (a2, .inl (cB, 12, .inl (fun _ => 0))), (a3, .inl (cI, 12, .inl (fun _ => 0))), (a4, .inl (cI, 3, .inl (fun _ => 0))), (a5, .inl (cI, 3, .inl (fun _ => 0)))] H := hP
  have hD : va_D A [(h0, .inr (0, [.ref a1, .ref a2, .ref a3, .ref a4, .ref a5, .null, .null, .null, .null, .null, .null, .int 0, .int 0, .int 0, .int 0, .int 0, .int 0, .int 0, .null, .null, .null, .null])), (a1, .inl (cB, 3, .inl (fun _ => 0))), (a2, .inl (cB, 12, .inl (fun _ => 0))), (a3, .inl (cI, 12, .inl (fun _ => 0))), (a4, .inl (cI, 3, .inl (fun _ => 0))), (a5, .inl (cI, 3, .inl (fun _ => 0)))] := hD
  refine lv_aload_n hx hb dX0_init_41 rfl (lv_at hl 0 rfl) ?_
  refine lv_bipush (v := nI 125) hx hb dX0_init_42 (by decide) ?_
  refine va_newa (atype := .int) (a0 := (125, .inl (fun _ => 0))) (ty := .int) (N' := 125) hx hb (hts _ q99) rfl hK hP hD hS hA (fun _ => rfl) (by decide) (by decide) (by decide) (Nat.le_of_ble_eq_true rfl) (Nat.le_of_ble_eq_true rfl) dX0_init_44 (fun a6 k6 H hK hP hD hS => ?_)
  have e5 : cI = k6 := Option.some.inj ((hK.2 1 _ rfl).2.symm.trans (hK.2 2 _ rfl).2)
  subst e5
  have hK : va_K D vwCl [(cB, .byte), (cI, .int)] s := hK.sub [0, 1] rfl
  have hP : va_P D vwCl [(h0, .inr (0, [.ref a1, .ref a2, .ref a3, .ref a4, .ref a5, .null, .null, .null, .null, .null, .null, .int 0, .int 0, .int 0, .int 0, .int 0, .int 0, .int 0, .null, .null, .null, .null])), (a1, .inl (cB, 3, .inl (fun _ => 0))), (a2, .inl (cB, 12, .inl (fun _ => 0))), (a3, .inl (cI, 12, .inl (fun _ => 0))), (a4, .inl (cI, 3, .inl (fun _ => 0))), (a5, .inl (cI, 3, .inl (fun _ => 0))), (a6, .inl (cI, 125, .inl (fun _ => 0)))] H := hP
  have hD : va_D A [(h0, .inr (0, [.ref a1, .ref a2, .ref a3, .ref a4, .ref a5, .null, .null, .null, .null, .null, .null, .int 0, .int 0, .int 0, .int 0, .int 0, .int 0, .int 0, .null, .null, .null, .null])), (a1, .inl (cB, 3, .inl (fun _ => 0))), (a2, .inl (cB, 12, .inl (fun _ => 0))), (a3, .inl (cI, 12, .inl (fun _ => 0))), (a4, .inl (cI, 3, .inl (fun _ => 0))), (a5, .inl (cI, 3, .inl (fun _ => 0))), (a6, .inl (cI, 125, .inl (fun _ => 0)))] := hD
  refine va_putF (D := D) (ci := 0) (v := .ref a6) (ty := tyX0 5) (C := RX0) (T := TX0) (N := 22) hx hb hts in_X0 tyX0 tyX0_ok nmX0 hown hK hP hD hS 0 rfl rfl 5 (by decide) (hts _ q36) (fun _ h9 => h9) rfl hin rfl (tyX0_ok 5 (by decide)) rfl rfl (Nat.le_of_ble_eq_true rfl) dX0_init_46 (fun H locs hP hD hS => ?_)
  have hP : va_P D vwCl [(h0, .inr (0, [.ref a1, .ref a2, .ref a3, .ref a4, .ref a5, .ref a6, .null, .null, .null, .null, .null, .int 0, .int 0, .int 0, .int 0, .int 0, .int 0, .int 0, .null, .null, .null, .null])), (a1, .inl (cB, 3, .inl (fun _ => 0))), (a2, .inl (cB, 12, .inl (fun _ => 0))), (a3, .inl (cI, 12, .inl (fun _ => 0))), (a4, .inl (cI, 3, .inl (fun _ => 0))), (a5, .inl (cI, 3, .inl (fun _ => 0))), (a6, .inl (cI, 125, .inl (fun _ => 0)))] H := hP
  have hD : va_D A [(h0, .inr (0, [.ref a1, .ref a2, .ref a3, .ref a4, .ref a5, .ref a6, .null, .null, .null, .null, .null, .int 0, .int 0, .int 0, .int 0, .int 0, .int 0, .int 0, .null, .null, .null, .null])), (a1, .inl (cB, 3, .inl (fun _ => 0))), (a2, .inl (cB, 12, .inl (fun _ => 0))), (a3, .inl (cI, 12, .inl (fun _ => 0))), (a4, .inl (cI, 3, .inl (fun _ => 0))), (a5, .inl (cI, 3, .inl (fun _ => 0))), (a6, .inl (cI, 125, .inl (fun _ => 0)))] := hD
  refine lv_aload_n hx hb dX0_init_49 rfl (lv_at hl 0 rfl) ?_
  refine lv_bipush (v := nI 39) hx hb dX0_init_50 (by decide) ?_
  refine va_newa (atype := .byte) (a0 := (39, .inl (fun _ => 0))) (ty := .byte) (N' := 39) hx hb (hts _ q98) rfl hK hP hD hS hA (fun _ => rfl) (by decide) (by decide) (by decide) (Nat.le_of_ble_eq_true rfl) (Nat.le_of_ble_eq_true rfl) dX0_init_52 (fun a7 k7 H hK hP hD hS => ?_)
  have e6 : cB = k7 := Option.some.inj ((hK.2 0 _ rfl).2.symm.trans (hK.2 2 _ rfl).2)
  subst e6
  have hK : va_K D vwCl [(cB, .byte), (cI, .int)] s := hK.sub [0, 1] rfl
  have hP : va_P D vwCl [(h0, .inr (0, [.ref a1, .ref a2, .ref a3, .ref a4, .ref a5, .ref a6, .null, .null, .null, .null, .null, .int 0, .int 0, .int 0, .int 0, .int 0, .int 0, .int 0, .null, .null, .null, .null])), (a1, .inl (cB, 3, .inl (fun _ => 0))), (a2, .inl (cB, 12, .inl (fun _ => 0))), (a3, .inl (cI, 12, .inl (fun _ => 0))), (a4, .inl (cI, 3, .inl (fun _ => 0))), (a5, .inl (cI, 3, .inl (fun _ => 0))), (a6, .inl (cI, 125, .inl (fun _ => 0))), (a7, .inl (cB, 39, .inl (fun _ => 0)))] H := hP
  have hD : va_D A [(h0, .inr (0, [.ref a1, .ref a2, .ref a3, .ref a4, .ref a5, .ref a6, .null, .null, .null, .null, .null, .int 0, .int 0, .int 0, .int 0, .int 0, .int 0, .int 0, .null, .null, .null, .null])), (a1, .inl (cB, 3, .inl (fun _ => 0))), (a2, .inl (cB, 12, .inl (fun _ => 0))), (a3, .inl (cI, 12, .inl (fun _ => 0))), (a4, .inl (cI, 3, .inl (fun _ => 0))), (a5, .inl (cI, 3, .inl (fun _ => 0))), (a6, .inl (cI, 125, .inl (fun _ => 0))), (a7, .inl (cB, 39, .inl (fun _ => 0)))] := hD
  refine va_putF (D := D) (ci := 0) (v := .ref a7) (ty := tyX0 6) (C := RX0) (T := TX0) (N := 22) hx hb hts in_X0 tyX0 tyX0_ok nmX0 hown hK hP hD hS 0 rfl rfl 6 (by decide) (hts _ q37) (fun _ h9 => h9) rfl hin rfl (tyX0_ok 6 (by decide)) rfl rfl (Nat.le_of_ble_eq_true rfl) dX0_init_54 (fun H locs hP hD hS => ?_)
  have hP : va_P D vwCl [(h0, .inr (0, [.ref a1, .ref a2, .ref a3, .ref a4, .ref a5, .ref a6, .ref a7, .null, .null, .null, .null, .int 0, .int 0, .int 0, .int 0, .int 0, .int 0, .int 0, .null, .null, .null, .null])), (a1, .inl (cB, 3, .inl (fun _ => 0))), (a2, .inl (cB, 12, .inl (fun _ => 0))), (a3, .inl (cI, 12, .inl (fun _ => 0))), (a4, .inl (cI, 3, .inl (fun _ => 0))), (a5, .inl (cI, 3, .inl (fun _ => 0))), (a6, .inl (cI, 125, .inl (fun _ => 0))), (a7, .inl (cB, 39, .inl (fun _ => 0)))] H := hP
  have hD : va_D A [(h0, .inr (0, [.ref a1, .ref a2, .ref a3, .ref a4, .ref a5, .ref a6, .ref a7, .null, .null, .null, .null, .int 0, .int 0, .int 0, .int 0, .int 0, .int 0, .int 0, .null, .null, .null, .null])), (a1, .inl (cB, 3, .inl (fun _ => 0))), (a2, .inl (cB, 12, .inl (fun _ => 0))), (a3, .inl (cI, 12, .inl (fun _ => 0))), (a4, .inl (cI, 3, .inl (fun _ => 0))), (a5, .inl (cI, 3, .inl (fun _ => 0))), (a6, .inl (cI, 125, .inl (fun _ => 0))), (a7, .inl (cB, 39, .inl (fun _ => 0)))] := hD
  refine lv_aload_n hx hb dX0_init_57 rfl (lv_at hl 0 rfl) ?_
  refine lv_bipush (v := nI 39) hx hb dX0_init_58 (by decide) ?_
  refine va_newa (atype := .int) (a0 := (39, .inl (fun _ => 0))) (ty := .int) (N' := 39) hx hb (hts _ q99) rfl hK hP hD hS hA (fun _ => rfl) (by decide) (by decide) (by decide) (Nat.le_of_ble_eq_true rfl) (Nat.le_of_ble_eq_true rfl) dX0_init_60 (fun a8 k8 H hK hP hD hS => ?_)
  have e7 : cI = k8 := Option.some.inj ((hK.2 1 _ rfl).2.symm.trans (hK.2 2 _ rfl).2)
  subst e7
  have hK : va_K D vwCl [(cB, .byte), (cI, .int)] s := hK.sub [0, 1] rfl
  have hP : va_P D vwCl [(h0, .inr (0, [.ref a1, .ref a2, .ref a3, .ref a4, .ref a5, .ref a6, .ref a7, .null, .null, .null, .null, .int 0, .int 0, .int 0, .int 0, .int 0, .int 0, .int 0, .null, .null, .null, .null])), (a1, .inl (cB, 3, .inl (fun _ => 0))), (a2, .inl (cB, 12, .inl (fun _ => 0))), (a3, .inl (cI, 12, .inl (fun _ => 0))), (a4, .inl (cI, 3, .inl (fun _ => 0))), (a5, .inl (cI, 3, .inl (fun _ => 0))), (a6, .inl (cI, 125, .inl (fun _ => 0))), (a7, .inl (cB, 39, .inl (fun _ => 0))), (a8, .inl (cI, 39, .inl (fun _ => 0)))] H := hP
  have hD : va_D A [(h0, .inr (0, [.ref a1, .ref a2, .ref a3, .ref a4, .ref a5, .ref a6, .ref a7, .null, .null, .null, .null, .int 0, .int 0, .int 0, .int 0, .int 0, .int 0, .int 0, .null, .null, .null, .null])), (a1, .inl (cB, 3, .inl (fun _ => 0))), (a2, .inl (cB, 12, .inl (fun _ => 0))), (a3, .inl (cI, 12, .inl (fun _ => 0))), (a4, .inl (cI, 3, .inl (fun _ => 0))), (a5, .inl (cI, 3, .inl (fun _ => 0))), (a6, .inl (cI, 125, .inl (fun _ => 0))), (a7, .inl (cB, 39, .inl (fun _ => 0))), (a8, .inl (cI, 39, .inl (fun _ => 0)))] := hD
  refine va_putF (D := D) (ci := 0) (v := .ref a8) (ty := tyX0 7) (C := RX0) (T := TX0) (N := 22) hx hb hts in_X0 tyX0 tyX0_ok nmX0 hown hK hP hD hS 0 rfl rfl 7 (by decide) (hts _ q38) (fun _ h9 => h9) rfl hin rfl (tyX0_ok 7 (by decide)) rfl rfl (Nat.le_of_ble_eq_true rfl) dX0_init_62 (fun H locs hP hD hS => ?_)
  have hP : va_P D vwCl [(h0, .inr (0, [.ref a1, .ref a2, .ref a3, .ref a4, .ref a5, .ref a6, .ref a7, .ref a8, .null, .null, .null, .int 0, .int 0, .int 0, .int 0, .int 0, .int 0, .int 0, .null, .null, .null, .null])), (a1, .inl (cB, 3, .inl (fun _ => 0))), (a2, .inl (cB, 12, .inl (fun _ => 0))), (a3, .inl (cI, 12, .inl (fun _ => 0))), (a4, .inl (cI, 3, .inl (fun _ => 0))), (a5, .inl (cI, 3, .inl (fun _ => 0))), (a6, .inl (cI, 125, .inl (fun _ => 0))), (a7, .inl (cB, 39, .inl (fun _ => 0))), (a8, .inl (cI, 39, .inl (fun _ => 0)))] H := hP
  have hD : va_D A [(h0, .inr (0, [.ref a1, .ref a2, .ref a3, .ref a4, .ref a5, .ref a6, .ref a7, .ref a8, .null, .null, .null, .int 0, .int 0, .int 0, .int 0, .int 0, .int 0, .int 0, .null, .null, .null, .null])), (a1, .inl (cB, 3, .inl (fun _ => 0))), (a2, .inl (cB, 12, .inl (fun _ => 0))), (a3, .inl (cI, 12, .inl (fun _ => 0))), (a4, .inl (cI, 3, .inl (fun _ => 0))), (a5, .inl (cI, 3, .inl (fun _ => 0))), (a6, .inl (cI, 125, .inl (fun _ => 0))), (a7, .inl (cB, 39, .inl (fun _ => 0))), (a8, .inl (cI, 39, .inl (fun _ => 0)))] := hD
  refine lv_aload_n hx hb dX0_init_65 rfl (lv_at hl 0 rfl) ?_
  refine lv_bipush (v := nI 39) hx hb dX0_init_66 (by decide) ?_
  refine va_newa (atype := .int) (a0 := (39, .inl (fun _ => 0))) (ty := .int) (N' := 39) hx hb (hts _ q99) rfl hK hP hD hS hA (fun _ => rfl) (by decide) (by decide) (by decide) (Nat.le_of_ble_eq_true rfl) (Nat.le_of_ble_eq_true rfl) dX0_init_68 (fun a9 k9 H hK hP hD hS => ?_)
  have e8 : cI = k9 := Option.some.inj ((hK.2 1 _ rfl).2.symm.trans (hK.2 2 _ rfl).2)
  subst e8
  have hK : va_K D vwCl [(cB, .byte), (cI, .int)] s := hK.sub [0, 1] rfl
  have hP : va_P D vwCl [(h0, .inr (0, [.ref a1, .ref a2, .ref a3, .ref a4, .ref a5, .ref a6, .ref a7, .ref a8, .null, .null, .null, .int 0, .int 0, .int 0, .int 0, .int 0, .int 0, .int 0, .null, .null, .null, .null])), (a1, .inl (cB, 3, .inl (fun _ => 0))), (a2, .inl (cB, 12, .inl (fun _ => 0))), (a3, .inl (cI, 12, .inl (fun _ => 0))), (a4, .inl (cI, 3, .inl (fun _ => 0))), (a5, .inl (cI, 3, .inl (fun _ => 0))), (a6, .inl (cI, 125, .inl (fun _ => 0))), (a7, .inl (cB, 39, .inl (fun _ => 0))), (a8, .inl (cI, 39, .inl (fun _ => 0))), (a9, .inl (cI, 39, .inl (fun _ => 0)))] H := hP
  have hD : va_D A [(h0, .inr (0, [.ref a1, .ref a2, .ref a3, .ref a4, .ref a5, .ref a6, .ref a7, .ref a8, .null, .null, .null, .int 0, .int 0, .int 0, .int 0, .int 0, .int 0, .int 0, .null, .null, .null, .null])), (a1, .inl (cB, 3, .inl (fun _ => 0))), (a2, .inl (cB, 12, .inl (fun _ => 0))), (a3, .inl (cI, 12, .inl (fun _ => 0))), (a4, .inl (cI, 3, .inl (fun _ => 0))), (a5, .inl (cI, 3, .inl (fun _ => 0))), (a6, .inl (cI, 125, .inl (fun _ => 0))), (a7, .inl (cB, 39, .inl (fun _ => 0))), (a8, .inl (cI, 39, .inl (fun _ => 0))), (a9, .inl (cI, 39, .inl (fun _ => 0)))] := hD
  refine va_putF (D := D) (ci := 0) (v := .ref a9) (ty := tyX0 8) (C := RX0) (T := TX0) (N := 22) hx hb hts in_X0 tyX0 tyX0_ok nmX0 hown hK hP hD hS 0 rfl rfl 8 (by decide) (hts _ q39) (fun _ h9 => h9) rfl hin rfl (tyX0_ok 8 (by decide)) rfl rfl (Nat.le_of_ble_eq_true rfl) dX0_init_70 (fun H locs hP hD hS => ?_)
  have hP : va_P D vwCl [(h0, .inr (0, [.ref a1, .ref a2, .ref a3, .ref a4, .ref a5, .ref a6, .ref a7, .ref a8, .ref a9, .null, .null, .int 0, .int 0, .int 0, .int 0, .int 0, .int 0, .int 0, .null, .null, .null, .null])), (a1, .inl (cB, 3, .inl (fun _ => 0))), (a2, .inl (cB, 12, .inl (fun _ => 0))), (a3, .inl (cI, 12, .inl (fun _ => 0))), (a4, .inl (cI, 3, .inl (fun _ => 0))), (a5, .inl (cI, 3, .inl (fun _ => 0))), (a6, .inl (cI, 125, .inl (fun _ => 0))), (a7, .inl (cB, 39, .inl (fun _ => 0))), (a8, .inl (cI, 39, .inl (fun _ => 0))), (a9, .inl (cI, 39, .inl (fun _ => 0)))] H := hP
  have hD : va_D A [(h0, .inr (0, [.ref a1, .ref a2, .ref a3, .ref a4, .ref a5, .ref a6, .ref a7, .ref a8, .ref a9, .null, .null, .int 0, .int 0, .int 0, .int 0, .int 0, .int 0, .int 0, .null, .null, .null, .null])), (a1, .inl (cB, 3, .inl (fun _ => 0))), (a2, .inl (cB, 12, .inl (fun _ => 0))), (a3, .inl (cI, 12, .inl (fun _ => 0))), (a4, .inl (cI, 3, .inl (fun _ => 0))), (a5, .inl (cI, 3, .inl (fun _ => 0))), (a6, .inl (cI, 125, .inl (fun _ => 0))), (a7, .inl (cB, 39, .inl (fun _ => 0))), (a8, .inl (cI, 39, .inl (fun _ => 0))), (a9, .inl (cI, 39, .inl (fun _ => 0)))] := hD
  refine lv_aload_n hx hb dX0_init_73 rfl (lv_at hl 0 rfl) ?_
  refine lv_bipush (v := nI 13) hx hb dX0_init_74 (by decide) ?_
  refine va_newa (atype := .byte) (a0 := (13, .inl (fun _ => 0))) (ty := .byte) (N' := 13) hx hb (hts _ q98) rfl hK hP hD hS hA (fun _ => rfl) (by decide) (by decide) (by decide) (Nat.le_of_ble_eq_true rfl) (Nat.le_of_ble_eq_true rfl) dX0_init_76 (fun a10 k10 H hK hP hD hS => ?_)
  have e9 : cB = k10 := Option.some.inj ((hK.2 0 _ rfl).2.symm.trans (hK.2 2 _ rfl).2)
  subst e9
  have hK : va_K D vwCl [(cB, .byte), (cI, .int)] s := hK.sub [0, 1] rfl
  have hP : va_P D vwCl [(h0, .inr (0, [.ref a1, .ref a2, .ref a3, .ref a4, .ref a5, .ref a6, .ref a7, .ref a8, .ref a9, .null, .null, .int 0, .int 0, .int 0, .int 0, .int 0, .int 0, .int 0, .null, .null, .null, .null])), (a1, .inl (cB, 3, .inl (fun _ => 0))), (a2, .inl (cB, 12, .inl (fun _ => 0))), (a3, .inl (cI, 12, .inl (fun _ => 0))), (a4, .inl (cI, 3, .inl (fun _ => 0))), (a5, .inl (cI, 3, .inl (fun _ => 0))), (a6, .inl (cI, 125, .inl (fun _ => 0))), (a7, .inl (cB, 39, .inl (fun _ => 0))), (a8, .inl (cI, 39, .inl (fun _ => 0))), (a9, .inl (cI, 39, .inl (fun _ => 0))), (a10, .inl (cB, 13, .inl (fun _ => 0)))] H := hP
  have hD : va_D A [(h0, .inr (0, [.ref a1, .ref a2, .ref a3, .ref a4, .ref a5, .ref a6, .ref a7, .ref a8, .ref a9, .null, .null, .int 0, .int 0, .int 0, .int 0, .int 0, .int 0, .int 0, .null, .null, .null, .null])), (a1, .inl (cB, 3, .inl (fun _ => 0))), (a2, .inl (cB, 12, .inl (fun _ => 0))), (a3, .inl (cI, 12, .inl (fun _ => 0))), (a4, .inl (cI, 3, .inl (fun _ => 0))), (a5, .inl (cI, 3, .inl (fun _ => 0))), (a6, .inl (cI, 125, .inl (fun _ => 0))), (a7, .inl (cB, 39, .inl (fun _ => 0))), (a8, .inl (cI, 39, .inl (fun _ => 0))), (a9, .inl (cI, 39, .inl (fun _ => 0))), (a10, .inl (cB, 13, .inl (fun _ => 0)))] := hD
  refine va_putF (D := D) (ci := 0) (v := .ref a10) (ty := tyX0 9) (C := RX0) (T := TX0) (N := 22) hx hb hts in_X0 tyX0 tyX0_ok nmX0 hown hK hP hD hS 0 rfl rfl 9 (by decide) (hts _ q40) (fun _ h9 => h9) rfl hin rfl (tyX0_ok 9 (by decide)) rfl rfl (Nat.le_of_ble_eq_true rfl) dX0_init_78 (fun H locs hP hD hS => ?_)
  have hP : va_P D vwCl [(h0, .inr (0, [.ref a1, .ref a2, .ref a3, .ref a4, .ref a5, .ref a6, .ref a7, .ref a8, .ref a9, .ref a10, .null, .int 0, .int 0, .int 0, .int 0, .int 0, .int 0, .int 0, .null, .null, .null, .null])), (a1, .inl (cB, 3, .inl (fun _ => 0))), (a2, .inl (cB, 12, .inl (fun _ => 0))), (a3, .inl (cI, 12, .inl (fun _ => 0))), (a4, .inl (cI, 3, .inl (fun _ => 0))), (a5, .inl (cI, 3, .inl (fun _ => 0))), (a6, .inl (cI, 125, .inl (fun _ => 0))), (a7, .inl (cB, 39, .inl (fun _ => 0))), (a8, .inl (cI, 39, .inl (fun _ => 0))), (a9, .inl (cI, 39, .inl (fun _ => 0))), (a10, .inl (cB, 13, .inl (fun _ => 0)))] H := hP
  have hD : va_D A [(h0, .inr (0, [.ref a1, .ref a2, .ref a3, .ref a4, .ref a5, .ref a6, .ref a7, .ref a8, .ref a9, .ref a10, .null, .int 0, .int 0, .int 0, .int 0, .int 0, .int 0, .int 0, .null, .null, .null, .null])), (a1, .inl (cB, 3, .inl (fun _ => 0))), (a2, .inl (cB, 12, .inl (fun _ => 0))), (a3, .inl (cI, 12, .inl (fun _ => 0))), (a4, .inl (cI, 3, .inl (fun _ => 0))), (a5, .inl (cI, 3, .inl (fun _ => 0))), (a6, .inl (cI, 125, .inl (fun _ => 0))), (a7, .inl (cB, 39, .inl (fun _ => 0))), (a8, .inl (cI, 39, .inl (fun _ => 0))), (a9, .inl (cI, 39, .inl (fun _ => 0))), (a10, .inl (cB, 13, .inl (fun _ => 0)))] := hD
  refine lv_aload_n hx hb dX0_init_81 rfl (lv_at hl 0 rfl) ?_
  refine lv_bipush (v := nI 13) hx hb dX0_init_82 (by decide) ?_
  refine va_newa (atype := .byte) (a0 := (13, .inl (fun _ => 0))) (ty := .byte) (N' := 13) hx hb (hts _ q98) rfl hK hP hD hS hA (fun _ => rfl) (by decide) (by decide) (by decide) (Nat.le_of_ble_eq_true rfl) (Nat.le_of_ble_eq_true rfl) dX0_init_84 (fun a11 k11 H hK hP hD hS => ?_)
  have e10 : cB = k11 := Option.some.inj ((hK.2 0 _ rfl).2.symm.trans (hK.2 2 _ rfl).2)
  subst e10
  have hK : va_K D vwCl [(cB, .byte), (cI, .int)] s := hK.sub [0, 1] rfl
  have hP : va_P D vwCl [(h0, .inr (0, [.ref a1, .ref a2, .ref a3, .ref a4, .ref a5, .ref a6, .ref a7, .ref a8, .ref a9, .ref a10, .null, .int 0, .int 0, .int 0, .int 0, .int 0, .int 0, .int 0, .null, .null, .null, .null])), (a1, .inl (cB, 3, .inl (fun _ => 0))), (a2, .inl (cB, 12, .inl (fun _ => 0))), (a3, .inl (cI, 12, .inl (fun _ => 0))), (a4, .inl (cI, 3, .inl (fun _ => 0))), (a5, .inl (cI, 3, .inl (fun _ => 0))), (a6, .inl (cI, 125, .inl (fun _ => 0))), (a7, .inl (cB, 39, .inl (fun _ => 0))), (a8, .inl (cI, 39, .inl (fun _ => 0))), (a9, .inl (cI, 39, .inl (fun _ => 0))), (a10, .inl (cB, 13, .inl (fun _ => 0))), (a11, .inl (cB, 13, .inl (fun _ => 0)))] H := hP
  have hD : va_D A [(h0, .inr (0, [.ref a1, .ref a2, .ref a3, .ref a4, .ref a5, .ref a6, .ref a7, .ref a8, .ref a9, .ref a10, .null, .int 0, .int 0, .int 0, .int 0, .int 0, .int 0, .int 0, .null, .null, .null, .null])), (a1, .inl (cB, 3, .inl (fun _ => 0))), (a2, .inl (cB, 12, .inl (fun _ => 0))), (a3, .inl (cI, 12, .inl (fun _ => 0))), (a4, .inl (cI, 3, .inl (fun _ => 0))), (a5, .inl (cI, 3, .inl (fun _ => 0))), (a6, .inl (cI, 125, .inl (fun _ => 0))), (a7, .inl (cB, 39, .inl (fun _ => 0))), (a8, .inl (cI, 39, .inl (fun _ => 0))), (a9, .inl (cI, 39, .inl (fun _ => 0))), (a10, .inl (cB, 13, .inl (fun _ => 0))), (a11, .inl (cB, 13, .inl (fun _ => 0)))] := hD
  refine va_putF (D := D) (ci := 0) (v := .ref a11) (ty := tyX0 10) (C := RX0) (T := TX0) (N := 22) hx hb hts in_X0 tyX0 tyX0_ok nmX0 hown hK hP hD hS 0 rfl rfl 10 (by decide) (hts _ q41) (fun _ h9 => h9) rfl hin rfl (tyX0_ok 10 (by decide)) rfl rfl (Nat.le_of_ble_eq_true rfl) dX0_init_86 (fun H locs hP hD hS => ?_)
  have hP : va_P D vwCl [(h0, .inr (0, [.ref a1, .ref a2, .ref a3, .ref a4, .ref a5, .ref a6, .ref a7, .ref a8, .ref a9, .ref a10, .ref a11, .int 0, .int 0, .int 0, .int 0, .int 0, .int 0, .int 0, .null, .null, .null, .null])), (a1, .inl (cB, 3, .inl (fun _ => 0))), (a2, .inl (cB, 12, .inl (fun _ => 0))), (a3, .inl (cI, 12, .inl (fun _ => 0))), (a4, .inl (cI, 3, .inl (fun _ => 0))), (a5, .inl (cI, 3, .inl (fun _ => 0))), (a6, .inl (cI, 125, .inl (fun _ => 0))), (a7, .inl (cB, 39, .inl (fun _ => 0))), (a8, .inl (cI, 39, .inl (fun _ => 0))), (a9, .inl (cI, 39, .inl (fun _ => 0))), (a10, .inl (cB, 13, .inl (fun _ => 0))), (a11, .inl (cB, 13, .inl (fun _ => 0)))] H := hP
  have hD : va_D A [(h0, .inr (0, [.ref a1, .ref a2, .ref a3, .ref a4, .ref a5, .ref a6, .ref a7, .ref a8, .ref a9, .ref a10, .ref a11, .int 0, .int 0, .int 0, .int 0, .int 0, .int 0, .int 0, .null, .null, .null, .null])), (a1, .inl (cB, 3, .inl (fun _ => 0))), (a2, .inl (cB, 12, .inl (fun _ => 0))), (a3, .inl (cI, 12, .inl (fun _ => 0))), (a4, .inl (cI, 3, .inl (fun _ => 0))), (a5, .inl (cI, 3, .inl (fun _ => 0))), (a6, .inl (cI, 125, .inl (fun _ => 0))), (a7, .inl (cB, 39, .inl (fun _ => 0))), (a8, .inl (cI, 39, .inl (fun _ => 0))), (a9, .inl (cI, 39, .inl (fun _ => 0))), (a10, .inl (cB, 13, .inl (fun _ => 0))), (a11, .inl (cB, 13, .inl (fun _ => 0)))] := hD
  refine lv_aload_n hx hb dX0_init_89 rfl (lv_at hl 0 rfl) ?_
  refine lv_iconst (v := nI 3) hx hb dX0_init_90 (by decide) ?_
  refine va_newa (atype := .int) (a0 := (3, .inl (fun _ => 0))) (ty := .int) (N' := 3) hx hb (hts _ q99) rfl hK hP hD hS hA (fun _ => rfl) (by decide) (by decide) (by decide) (Nat.le_of_ble_eq_true rfl) (Nat.le_of_ble_eq_true rfl) dX0_init_91 (fun a12 k12 H hK hP hD hS => ?_)
  have e11 : cI = k12 := Option.some.inj ((hK.2 1 _ rfl).2.symm.trans (hK.2 2 _ rfl).2)
  subst e11
  have hK : va_K D vwCl [(cB, .byte), (cI, .int)] s := hK.sub [0, 1] rfl
  have hP : va_P D vwCl [(h0, .inr (0, [.ref a1, .ref a2, .ref a3, .ref a4, .ref a5, .ref a6, .ref a7, .ref a8, .ref a9, .ref a10, .ref a11, .int 0, .int 0, .int 0, .int 0, .int 0, .int 0, .int 0, .null, .null, .null, .null])), (a1, .inl (cB, 3, .inl (fun _ => 0))), (a2, .inl (cB, 12, .inl (fun _ => 0))), (a3, .inl (cI, 12, .inl (fun _ => 0))), (a4, .inl (cI, 3, .inl (fun _ => 0))), (a5, .inl (cI, 3, .inl (fun _ => 0))), (a6, .inl (cI, 125, .inl (fun _ => 0))), (a7, .inl (cB, 39, .inl (fun _ => 0))), (a8, .inl (cI, 39, .inl (fun _ => 0))), (a9, .inl (cI, 39, .inl (fun _ => 0))), (a10, .inl (cB, 13, .inl (fun _ => 0))), (a11, .inl (cB, 13, .inl (fun _ => 0))), (a12, .inl (cI, 3, .inl (fun _ => 0)))] H := hP
  have hD : va_D A [(h0, .inr (0, [.ref a1, .ref a2, .ref a3, .ref a4, .ref a5, .ref a6, .ref a7, .ref a8, .ref a9, .ref a10, .ref a11, .int 0, .int 0, .int 0, .int 0, .int 0, .int 0, .int 0, .null, .null, .null, .null])), (a1, .inl (cB, 3, .inl (fun _ => 0))), (a2, .inl (cB, 12, .inl (fun _ => 0))), (a3, .inl (cI, 12, .inl (fun _ => 0))), (a4, .inl (cI, 3, .inl (fun _ => 0))), (a5, .inl (cI, 3, .inl (fun _ => 0))), (a6, .inl (cI, 125, .inl (fun _ => 0))), (a7, .inl (cB, 39, .inl (fun _ => 0))), (a8, .inl (cI, 39, .inl (fun _ => 0))), (a9, .inl (cI, 39, .inl (fun _ => 0))), (a10, .inl (cB, 13, .inl (fun _ => 0))), (a11, .inl (cB, 13, .inl (fun _ => 0))), (a12, .inl (cI, 3, .inl (fun _ => 0)))] := hD
  refine va_putF (D := D) (ci := 0) (v := .ref a12) (ty := tyX0 18) (C := RX0) (T := TX0) (N := 22) hx hb hts in_X0 tyX0 tyX0_ok nmX0 hown hK hP hD hS 0 rfl rfl 18 (by decide) (hts _ q49) (fun _ h9 => h9) rfl hin rfl (tyX0_ok 18 (by decide)) rfl rfl (Nat.le_of_ble_eq_true rfl) dX0_init_93 (fun H locs hP hD hS => ?_)
  have hP : va_P D vwCl [(h0, .inr (0, [.ref a1, .ref a2, .ref a3, .ref a4, .ref a5, .ref a6, .ref a7, .ref a8, .ref a9, .ref a10, .ref a11, .int 0, .int 0, .int 0, .int 0, .int 0, .int 0, .int 0, .ref a12, .null, .null, .null])), (a1, .inl (cB, 3, .inl (fun _ => 0))), (a2, .inl (cB, 12, .inl (fun _ => 0))), (a3, .inl (cI, 12, .inl (fun _ => 0))), (a4, .inl (cI, 3, .inl (fun _ => 0))), (a5, .inl (cI, 3, .inl (fun _ => 0))), (a6, .inl (cI, 125, .inl (fun _ => 0))), (a7, .inl (cB, 39, .inl (fun _ => 0))), (a8, .inl (cI, 39, .inl (fun _ => 0))), (a9, .inl (cI, 39, .inl (fun _ => 0))), (a10, .inl (cB, 13, .inl (fun _ => 0))), (a11, .inl (cB, 13, .inl (fun _ => 0))), (a12, .inl (cI, 3, .inl (fun _ => 0)))] H := hP
  have hD : va_D A [(h0, .inr (0, [.ref a1, .ref a2, .ref a3, .ref a4, .ref a5, .ref a6, .ref a7, .ref a8, .ref a9, .ref a10, .ref a11, .int 0, .int 0, .int 0, .int 0, .int 0, .int 0, .int 0, .ref a12, .null, .null, .null])), (a1, .inl (cB, 3, .inl (fun _ => 0))), (a2, .inl (cB, 12, .inl (fun _ => 0))), (a3, .inl (cI, 12, .inl (fun _ => 0))), (a4, .inl (cI, 3, .inl (fun _ => 0))), (a5, .inl (cI, 3, .inl (fun _ => 0))), (a6, .inl (cI, 125, .inl (fun _ => 0))), (a7, .inl (cB, 39, .inl (fun _ => 0))), (a8, .inl (cI, 39, .inl (fun _ => 0))), (a9, .inl (cI, 39, .inl (fun _ => 0))), (a10, .inl (cB, 13, .inl (fun _ => 0))), (a11, .inl (cB, 13, .inl (fun _ => 0))), (a12, .inl (cI, 3, .inl (fun _ => 0)))] := hD
  refine lv_aload_n hx hb dX0_init_96 rfl (lv_at hl 0 rfl) ?_
  refine lv_iconst (v := nI 3) hx hb dX0_init_97 (by decide) ?_
  refine va_newa (atype := .int) (a0 := (3, .inl (fun _ => 0))) (ty := .int) (N' := 3) hx hb (hts _ q99) rfl hK hP hD hS hA (fun _ => rfl) (by decide) (by decide) (by decide) (Nat.le_of_ble_eq_true rfl) (Nat.le_of_ble_eq_true rfl) dX0_init_98 (fun a13 k13 H hK hP hD hS => ?_)
  have e12 : cI = k13 := Option.some.inj ((hK.2 1 _ rfl).2.symm.trans (hK.2 2 _ rfl).2)
  subst e12
  have hK : va_K D vwCl [(cB, .byte), (cI, .int)] s := hK.sub [0, 1] rfl
  have hP : va_P D vwCl [(h0, .inr (0, [.ref a1, .ref a2, .ref a3, .ref a4, .ref a5, .ref a6, .ref a7, .ref a8, .ref a9, .ref a10, .ref a11, .int 0, .int 0, .int 0, .int 0, .int 0, .int 0, .int 0, .ref a12, .null, .null, .null])), (a1, .inl (cB, 3, .inl (fun _ => 0))), (a2, .inl (cB, 12, .inl (fun _ => 0))), (a3, .inl (cI, 12, .inl (fun _ => 0))), (a4, .inl (cI, 3, .inl (fun _ => 0))), (a5, .inl (cI, 3, .inl (fun _ => 0))), (a6, .inl (cI, 125, .inl (fun _ => 0))), (a7, .inl (cB, 39, .inl (fun _ => 0))), (a8, .inl (cI, 39, .inl (fun _ => 0))), (a9, .inl (cI, 39, .inl (fun _ => 0))), (a10, .inl (cB, 13, .inl (fun _ => 0))), (a11, .inl (cB, 13, .inl (fun _ => 0))), (a12, .inl (cI, 3, .inl (fun _ => 0))), (a13, .inl (cI, 3, .inl (fun _ => 0)))] H := hP
  have hD : va_D A [(h0, .inr (0, [.ref a1, .ref a2, .ref a3, .ref a4, .ref a5, .ref a6, .ref a7, .ref a8, .ref a9, .ref a10, .ref a11, .int 0, .int 0, .int 0, .int 0, .int 0, .int 0, .int 0, .ref a12, .null, .null, .null])), (a1, .inl (cB, 3, .inl (fun _ => 0))), (a2, .inl (cB, 12, .inl (fun _ => 0))), (a3, .inl (cI, 12, .inl (fun _ => 0))), (a4, .inl (cI, 3, .inl (fun _ => 0))), (a5, .inl (cI, 3, .inl (fun _ => 0))), (a6, .inl (cI, 125, .inl (fun _ => 0))), (a7, .inl (cB, 39, .inl (fun _ => 0))), (a8, .inl (cI, 39, .inl (fun _ => 0))), (a9, .inl (cI, 39, .inl (fun _ => 0))), (a10, .inl (cB, 13, .inl (fun _ => 0))), (a11, .inl (cB, 13, .inl (fun _ => 0))), (a12, .inl (cI, 3, .inl (fun _ => 0))), (a13, .inl (cI, 3, .inl (fun _ => 0)))] := hD
  refine va_putF (D := D) (ci := 0) (v := .ref a13) (ty := tyX0 19) (C := RX0) (T := TX0) (N := 22) hx hb hts in_X0 tyX0 tyX0_ok nmX0 hown hK hP hD hS 0 rfl rfl 19 (by decide) (hts _ q50) (fun _ h9 => h9) rfl hin rfl (tyX0_ok 19 (by decide)) rfl rfl (Nat.le_of_ble_eq_true rfl) dX0_init_100 (fun H locs hP hD hS => ?_)
  have hP : va_P D vwCl [(h0, .inr (0, [.ref a1, .ref a2, .ref a3, .ref a4, .ref a5, .ref a6, .ref a7, .ref a8, .ref a9, .ref a10, .ref a11, .int 0, .int 0, .int 0, .int 0, .int 0, .int 0, .int 0, .ref a12, .ref a13, .null, .null])), (a1, .inl (cB, 3, .inl (fun _ => 0))), (a2, .inl (cB, 12, .inl (fun _ => 0))), (a3, .inl (cI, 12, .inl (fun _ => 0))), (a4, .inl (cI, 3, .inl (fun _ => 0))), (a5, .inl (cI, 3, .inl (fun _ => 0))), (a6, .inl (cI, 125, .inl (fun _ => 0))), (a7, .inl (cB, 39, .inl (fun _ => 0))), (a8, .inl (cI, 39, .inl (fun _ => 0))), (a9, .inl (cI, 39, .inl (fun _ => 0))), (a10, .inl (cB, 13, .inl (fun _ => 0))), (a11, .inl (cB, 13, .inl (fun _ => 0))), (a12, .inl (cI, 3, .inl (fun _ => 0))), (a13, .inl (cI, 3, .inl (fun _ => 0)))] H := hP
  have hD : va_D A [(h0, .inr (0, [.ref a1, .ref a2, .ref a3, .ref a4, .ref a5, .ref a6, .ref a7, .ref a8, .ref a9, .ref a10, .ref a11, .int 0, .int 0, .int 0, .int 0, .int 0, .int 0, .int 0, .ref a12, .ref a13, .null, .null])), (a1, .inl (cB, 3, .inl (fun _ => 0))), (a2, .inl (cB, 12, .inl (fun _ => 0))), (a3, .inl (cI, 12, .inl (fun _ => 0))), (a4, .inl (cI, 3, .inl (fun _ => 0))), (a5, .inl (cI, 3, .inl (fun _ => 0))), (a6, .inl (cI, 125, .inl (fun _ => 0))), (a7, .inl (cB, 39, .inl (fun _ => 0))), (a8, .inl (cI, 39, .inl (fun _ => 0))), (a9, .inl (cI, 39, .inl (fun _ => 0))), (a10, .inl (cB, 13, .inl (fun _ => 0))), (a11, .inl (cB, 13, .inl (fun _ => 0))), (a12, .inl (cI, 3, .inl (fun _ => 0))), (a13, .inl (cI, 3, .inl (fun _ => 0)))] := hD
  refine lv_aload_n hx hb dX0_init_103 rfl (lv_at hl 0 rfl) ?_
  refine lv_iconst (v := nI 3) hx hb dX0_init_104 (by decide) ?_
  refine va_newa (atype := .int) (a0 := (3, .inl (fun _ => 0))) (ty := .int) (N' := 3) hx hb (hts _ q99) rfl hK hP hD hS hA (fun _ => rfl) (by decide) (by decide) (by decide) (Nat.le_of_ble_eq_true rfl) (Nat.le_of_ble_eq_true rfl) dX0_init_105 (fun a14 k14 H hK hP hD hS => ?_)
  have e13 : cI = k14 := Option.some.inj ((hK.2 1 _ rfl).2.symm.trans (hK.2 2 _ rfl).2)
  subst e13
  have hK : va_K D vwCl [(cB, .byte), (cI, .int)] s := hK.sub [0, 1] rfl
  have hP : va_P D vwCl [(h0, .inr (0, [.ref a1, .ref a2, .ref a3, .ref a4, .ref a5, .ref a6, .ref a7, .ref a8, .ref a9, .ref a10, .ref a11, .int 0, .int 0, .int 0, .int 0, .int 0, .int 0, .int 0, .ref a12, .ref a13, .null, .null])), (a1, .inl (cB, 3, .inl (fun _ => 0))), (a2, .inl (cB, 12, .inl (fun _ => 0))), (a3, .inl (cI, 12, .inl (fun _ => 0))), (a4, .inl (cI, 3, .inl (fun _ => 0))), (a5, .inl (cI, 3, .inl (fun _ => 0))), (a6, .inl (cI, 125, .inl (fun _ => 0))), (a7, .inl (cB, 39, .inl (fun _ => 0))), (a8, .inl (cI, 39, .inl (fun _ => 0))), (a9, .inl (cI, 39, .inl (fun _ => 0))), (a10, .inl (cB, 13, .inl (fun _ => 0))), (a11, .inl (cB, 13, .inl (fun _ => 0))), (a12, .inl (cI, 3, .inl (fun _ => 0))), (a13, .inl (cI, 3, .inl (fun _ => 0))), (a14, .inl (cI, 3, .inl (fun _ => 0)))] H := hP
  have hD : va_D A [(h0, .inr (0, [.ref a1, .ref a2, .ref a3, .ref a4, .ref a5, .ref a6, .ref a7, .ref a8, .ref a9, .ref a10, .ref a11, .int 0, .int 0, .int 0, .int 0, .int 0, .int 0, .int 0, .ref a12, .ref a13, .null, .null])), (a1, .inl (cB, 3, .inl (fun _ => 0))), (a2, .inl (cB, 12, .inl (fun _ => 0))), (a3, .inl (cI, 12, .inl (fun _ => 0))), (a4, .inl (cI, 3, .inl (fun _ => 0))), (a5, .inl (cI, 3, .inl (fun _ => 0))), (a6, .inl (cI, 125, .inl (fun _ => 0))), (a7, .inl (cB, 39, .inl (fun _ => 0))), (a8, .inl (cI, 39, .inl (fun _ => 0))), (a9, .inl (cI, 39, .inl (fun _ => 0))), (a10, .inl (cB, 13, .inl (fun _ => 0))), (a11, .inl (cB, 13, .inl (fun _ => 0))), (a12, .inl (cI, 3, .inl (fun _ => 0))), (a13, .inl (cI, 3, .inl (fun _ => 0))), (a14, .inl (cI, 3, .inl (fun _ => 0)))] := hD
  refine va_putF (D := D) (ci := 0) (v := .ref a14) (ty := tyX0 20) (C := RX0) (T := TX0) (N := 22) hx hb hts in_X0 tyX0 tyX0_ok nmX0 hown hK hP hD hS 0 rfl rfl 20 (by decide) (hts _ q51) (fun _ h9 => h9) rfl hin rfl (tyX0_ok 20 (by decide)) rfl rfl (Nat.le_of_ble_eq_true rfl) dX0_init_107 (fun H locs hP hD hS => ?_)
  have hP : va_P D vwCl [(h0, .inr (0, [.ref a1, .ref a2, .ref a3, .ref a4, .ref a5, .ref a6, .ref a7, .ref a8, .ref a9, .ref a10, .ref a11, .int 0, .int 0, .int 0, .int 0, .int 0, .int 0, .int 0, .ref a12, .ref a13, .ref a14, .null])), (a1, .inl (cB, 3, .inl (fun _ => 0))), (a2, .inl (cB, 12, .inl (fun _ => 0))), (a3, .inl (cI, 12, .inl (fun _ => 0))), (a4, .inl (cI, 3, .inl (fun _ => 0))), (a5, .inl (cI, 3, .inl (fun _ => 0))), (a6, .inl (cI, 125, .inl (fun _ => 0))), (a7, .inl (cB, 39, .inl (fun _ => 0))), (a8, .inl (cI, 39, .inl (fun _ => 0))), (a9, .inl (cI, 39, .inl (fun _ => 0))), (a10, .inl (cB, 13, .inl (fun _ => 0))), (a11, .inl (cB, 13, .inl (fun _ => 0))), (a12, .inl (cI, 3, .inl (fun _ => 0))), (a13, .inl (cI, 3, .inl (fun _ => 0))), (a14, .inl (cI, 3, .inl (fun _ => 0)))] H := hP
  have hD : va_D A [(h0, .inr (0, [.ref a1, .ref a2, .ref a3, .ref a4, .ref a5, .ref a6, .ref a7, .ref a8, .ref a9, .ref a10, .ref a11, .int 0, .int 0, .int 0, .int 0, .int 0, .int 0, .int 0, .ref a12, .ref a13, .ref a14, .null])), (a1, .inl (cB, 3, .inl (fun _ => 0))), (a2, .inl (cB, 12, .inl (fun _ => 0))), (a3, .inl (cI, 12, .inl (fun _ => 0))), (a4, .inl (cI, 3, .inl (fun _ => 0))), (a5, .inl (cI, 3, .inl (fun _ => 0))), (a6, .inl (cI, 125, .inl (fun _ => 0))), (a7, .inl (cB, 39, .inl (fun _ => 0))), (a8, .inl (cI, 39, .inl (fun _ => 0))), (a9, .inl (cI, 39, .inl (fun _ => 0))), (a10, .inl (cB, 13, .inl (fun _ => 0))), (a11, .inl (cB, 13, .inl (fun _ => 0))), (a12, .inl (cI, 3, .inl (fun _ => 0))), (a13, .inl (cI, 3, .inl (fun _ => 0))), (a14, .inl (cI, 3, .inl (fun _ => 0)))] := hD
  refine lv_aload_n hx hb dX0_init_110 rfl (lv_at hl 0 rfl) ?_
  refine lv_iconst (v := nI 3) hx hb dX0_init_111 (by decide) ?_
  refine va_newa (atype := .int) (a0 := (3, .inl (fun _ => 0))) (ty := .int) (N' := 3) hx hb (hts _ q99) rfl hK hP hD hS hA (fun _ => rfl) (by decide) (by decide) (by decide) (Nat.le_of_ble_eq_true rfl) (Nat.le_of_ble_eq_true rfl) dX0_init_112 (fun a15 k15 H hK hP hD hS => ?_)
  have e14 : cI = k15 := Option.some.inj ((hK.2 1 _ rfl).2.symm.trans (hK.2 2 _ rfl).2)
  subst e14
  have hK : va_K D vwCl [(cB, .byte), (cI, .int)] s := hK.sub [0, 1] rfl
  have hP : va_P D vwCl [(h0, .inr (0, [.ref a1, .ref a2, .ref a3, .ref a4, .ref a5, .ref a6, .ref a7, .ref a8, .ref a9, .ref a10, .ref a11, .int 0, .int 0, .int 0, .int 0, .int 0, .int 0, .int 0, .ref a12, .ref a13, .ref a14, .null])), (a1, .inl (cB, 3, .inl (fun _ => 0))), (a2, .inl (cB, 12, .inl (fun _ => 0))), (a3, .inl (cI, 12, .inl (fun _ => 0))), (a4, .inl (cI, 3, .inl (fun _ => 0))), (a5, .inl (cI, 3, .inl (fun _ => 0))), (a6, .inl (cI, 125, .inl (fun _ => 0))), (a7, .inl (cB, 39, .inl (fun _ => 0))), (a8, .inl (cI, 39, .inl (fun _ => 0))), (a9, .inl (cI, 39, .inl (fun _ => 0))), (a10, .inl (cB, 13, .inl (fun _ => 0))), (a11, .inl (cB, 13, .inl (fun _ => 0))), (a12, .inl (cI, 3, .inl (fun _ => 0))), (a13, .inl (cI, 3, .inl (fun _ => 0))), (a14, .inl (cI, 3, .inl (fun _ => 0))), (a15, .inl (cI, 3, .inl (fun _ => 0)))] H := hP
  have hD : va_D A [(h0, .inr (0, [.ref a1, .ref a2, .ref a3, .ref a4, .ref a5, .ref a6, .ref a7, .ref a8, .ref a9, .ref a10, .ref a11, .int 0, .int 0, .int 0, .int 0, .int 0, .int 0, .int 0, .ref a12, .ref a13, .ref a14, .null])), (a1, .inl (cB, 3, .inl (fun _ => 0))), (a2, .inl (cB, 12, .inl (fun _ => 0))), (a3, .inl (cI, 12, .inl (fun _ => 0))), (a4, .inl (cI, 3, .inl (fun _ => 0))), (a5, .inl (cI, 3, .inl (fun _ => 0))), (a6, .inl (cI, 125, .inl (fun _ => 0))), (a7, .inl (cB, 39, .inl (fun _ => 0))), (a8, .inl (cI, 39, .inl (fun _ => 0))), (a9, .inl (cI, 39, .inl (fun _ => 0))), (a10, .inl (cB, 13, .inl (fun _ => 0))), (a11, .inl (cB, 13, .inl (fun _ => 0))), (a12, .inl (cI, 3, .inl (fun _ => 0))), (a13, .inl (cI, 3, .inl (fun _ => 0))), (a14, .inl (cI, 3, .inl (fun _ => 0))), (a15, .inl (cI, 3, .inl (fun _ => 0)))] := hD
  refine va_putF (D := D) (ci := 0) (v := .ref a15) (ty := tyX0 21) (C := RX0) (T := TX0) (N := 22) hx hb hts in_X0 tyX0 tyX0_ok nmX0 hown hK hP hD hS 0 rfl rfl 21 (by decide) (hts _ q52) (fun _ h9 => h9) rfl hin rfl (tyX0_ok 21 (by decide)) rfl rfl (Nat.le_of_ble_eq_true rfl) dX0_init_114 (fun H locs hP hD hS => ?_)
  have hP : va_P D vwCl [(h0, .inr (0, [.ref a1, .ref a2, .ref a3, .ref a4, .ref a5, .ref a6, .ref a7, .ref a8, .ref a9, .ref a10, .ref a11, .int 0, .int 0, .int 0, .int 0, .int 0, .int 0, .int 0, .ref a12, .ref a13, .ref a14, .ref a15])), (a1, .inl (cB, 3, .inl (fun _ => 0))), (a2, .inl (cB, 12, .inl (fun _ => 0))), (a3, .inl (cI, 12, .inl (fun _ => 0))), (a4, .inl (cI, 3, .inl (fun _ => 0))), (a5, .inl (cI, 3, .inl (fun _ => 0))), (a6, .inl (cI, 125, .inl (fun _ => 0))), (a7, .inl (cB, 39, .inl (fun _ => 0))), (a8, .inl (cI, 39, .inl (fun _ => 0))), (a9, .inl (cI, 39, .inl (fun _ => 0))), (a10, .inl (cB, 13, .inl (fun _ => 0))), (a11, .inl (cB, 13, .inl (fun _ => 0))), (a12, .inl (cI, 3, .inl (fun _ => 0))), (a13, .inl (cI, 3, .inl (fun _ => 0))), (a14, .inl (cI, 3, .inl (fun _ => 0))), (a15, .inl (cI, 3, .inl (fun _ => 0)))] H := hP
  have hD : va_D A [(h0, .inr (0, [.ref a1, .ref a2, .ref a3, .ref a4, .ref a5, .ref a6, .ref a7, .ref a8, .ref a9, .ref a10, .ref a11, .int 0, .int 0, .int 0, .int 0, .int 0, .int 0, .int 0, .ref a12, .ref a13, .ref a14, .ref a15])), (a1, .inl (cB, 3, .inl (fun _ => 0))), (a2, .inl (cB, 12, .inl (fun _ => 0))), (a3, .inl (cI, 12, .inl (fun _ => 0))), (a4, .inl (cI, 3, .inl (fun _ => 0))), (a5, .inl (cI, 3, .inl (fun _ => 0))), (a6, .inl (cI, 125, .inl (fun _ => 0))), (a7, .inl (cB, 39, .inl (fun _ => 0))), (a8, .inl (cI, 39, .inl (fun _ => 0))), (a9, .inl (cI, 39, .inl (fun _ => 0))), (a10, .inl (cB, 13, .inl (fun _ => 0))), (a11, .inl (cB, 13, .inl (fun _ => 0))), (a12, .inl (cI, 3, .inl (fun _ => 0))), (a13, .inl (cI, 3, .inl (fun _ => 0))), (a14, .inl (cI, 3, .inl (fun _ => 0))), (a15, .inl (cI, 3, .inl (fun _ => 0)))] := hD
  have hP9 : va_P D vwCl (xW (fun k => [h0, a1, a2, a3, a4, a5, a6, a7, a8, a9, a10, a11, a12, a13, a14, a15].getD k 0) cB cI ((fun _ => 0, fun _ => 0, fun _ => 0, fun _ => 0, fun _ => 0) : Pg) (fun _ => 0) (fun _ => 0) (fun _ => 0) (fun _ => 0) (fun _ => 0) (fun _ => 0) false 0 0 0 0 false 0 (fun _ => 0) (fun _ => 0) (fun _ => 0) (fun _ => 0)) H := hP
  have hD9 : va_D A (xW (fun k => [h0, a1, a2, a3, a4, a5, a6, a7, a8, a9, a10, a11, a12, a13, a14, a15].getD k 0) cB cI ((fun _ => 0, fun _ => 0, fun _ => 0, fun _ => 0, fun _ => 0) : Pg) (fun _ => 0) (fun _ => 0) (fun _ => 0) (fun _ => 0) (fun _ => 0) (fun _ => 0) false 0 0 0 0 false 0 (fun _ => 0) (fun _ => 0) (fun _ => 0) (fun _ => 0)) := hD
  have hK9 : va_K D vwCl (ty2 cB cI) s := hK
  exact W.vret hx hb hr (fun t ht hW => ⟨⟨((fun k => [h0, a1, a2, a3, a4, a5, a6, a7, a8, a9, a10, a11, a12, a13, a14, a15].getD k 0), cB, cI), rfl, rfl, by rw [ht]; exact hP9, va_K.moved hW.alike hK9, hD9⟩, hS.F ht⟩) hS.2.2 dX0_init_117
set_option maxHeartbeats 4000000 in
set_option maxRecDepth 100000 in
/-- the constructor of ScheduleReducerModel: 9 arrays of 68 places in all -/
theorem mm_init (l : Launch) (D : va_G) (h0 sz : Nat) : Met l yX1_init (ws_ yX1_init cX1_init 1 none) ({ frames := 1, cells := 9, slots := 68, locals := 12 }) (va_Pc [.ref h0] (fun U => U.heap.size = sz ∧ va_P D vwCl [(h0, .inr (1, [.null, .null, .null, .null, .int 0, .null, .null, .null, .null, .null]))] U.heap ∧ va_K D vwCl [] U ∧ va_D (fun _ => True) [(h0, .inr (1, [.null, .null, .null, .null, .int 0, .null, .null, .null, .null, .null]))])) (va_Qv (S := ((Nat → Nat) × ClassId)) (fun u => u.1 0 = h0) (fun u t => va_P D vwCl (mW u.1 u.2 ((fun _ => 0, fun _ => 0, fun _ => 0, fun _ => 0, fun _ => 0) : Pg) 0 (fun _ => 0) (fun _ => 0) (fun _ => 0) (fun _ => 0) (fun _ => 0)) t.heap ∧ va_K D vwCl [(u.2, .int)] t ∧ va_D (va_A [(h0, .inr (1, [.null, .null, .null, .null, .int 0, .null, .null, .null, .null, .null]))] sz) (mW u.1 u.2 ((fun _ => 0, fun _ => 0, fun _ => 0, fun _ => 0, fun _ => 0) : Pg) 0 (fun _ => 0) (fun _ => 0) (fun _ => 0) (fun _ => 0) (fun _ => 0))) (va_A [(h0, .inr (1, [.null, .null, .null, .null, .int 0, .null, .null, .null, .null, .null]))] sz)) 9 68 (va_A [(h0, .inr (1, [.null, .null, .null, .null, .int 0, .null, .null, .null, .null, .null]))] sz) := by
  refine Met.ofW (cc := cX1_init) (maxL := 1) (ret := none) (by decide) rfl ?_
  intro p e s m args below meth c s₁ B hml hv
  obtain ⟨rfl, hsz, hP, hK, hD0⟩ := hv
  have hx := B.exec
  have hb := B.bytes
  have hr := B.returns
  have hts := atoms_spec (ws := ws_ yX1_init cX1_init 1 none) B.pre
  have hts : ∀ w ∈ lw_all, w.before _ s = true := fun w h => hts w (List.mem_cons_of_mem _ h)
  have hown : s.vm.findClass RX1 = some m.cls := findClass_of_methodNamed B.named
  have hlocks := B.notSynchronized
  have hin : meth.name = "<init>" := (name_of_methodNamed B.named B.method).1
  subst hsz
  have hD := hD0.self (sz := s.heap.size)
  generalize hAe : va_A [(h0, .inr (1, [.null, .null, .null, .null, .int 0, .null, .null, .null, .null, .null]))] s.heap.size = A at hD ⊢
  have hA : ∀ q : Nat, s.heap.size ≤ q → A q := fun q h => by rw [← hAe]; exact Or.inr h
  have hS : va_S A s.heap s.heap [] := va_S.rf
  have hP : va_P D vwCl [(h0, .inr (1, [.null, .null, .null, .null, .int 0, .null, .null, .null, .null, .null]))] s.heap := hP
  have hl := lv_entry ([.ref h0]) (n := 1) (Nat.le_of_ble_eq_true rfl)
  rw [lg_entry_eq]
  generalize (lg_sl ([.ref h0]) ++ List.replicate (1 - (lg_sl ([.ref h0])).length) Slot.unset).toArray = ls at hl ⊢
  have hl : lv_has ls 1 [(0, .ref h0)] := hl
  refine lv_aload_n hx hb dX1_init_0 rfl (lv_at hl 0 rfl) ?_
  refine W.objInit hx hb hown (hts _ q204) (hts _ q29) (hts _ q30) rfl (by rw [hml]; exact hl.1) rfl dX1_init_1 (Nat.le_of_ble_eq_true rfl) (Nat.le_of_ble_eq_true rfl) ?_
  refine W.eq (g2 := F0 m 4 ls []) rfl ?_
  refine lv_aload_n hx hb dX1_init_4 rfl (lv_at hl 0 rfl) ?_
  refine lv_iconst (v := nI 3) hx hb dX1_init_5 (by decide) ?_
  refine va_newa (atype := .int) (a0 := (3, .inl (fun _ => 0))) (ty := .int) (N' := 3) hx hb (hts _ q99) rfl hK hP hD hS hA (fun _ => rfl) (by decide) (by decide) (by decide) (Nat.le_of_ble_eq_true rfl) (Nat.le_of_ble_eq_true rfl) dX1_init_6 (fun a1 cI H hK hP hD hS => ?_)
  have hK : va_K D vwCl [(cI, .int)] s := hK
  have hP : va_P D vwCl [(h0, .inr (1, [.null, .null, .null, .null, .int 0, .null, .null, .null, .null, .null])), (a1, .inl (cI, 3, .inl (fun _ => 0)))] H := hP
  have hD : va_D A [(h0, .inr (1, [.null, .null, .null, .null, .int 0, .null, .null, .null, .null, .null])), (a1, .inl (cI, 3, .inl (fun _ => 0)))] := hD
  refine va_put (D := D) (ci := 1) (v := .ref a1) (ty := tyX1 0) (C := RX1) (T := TX1) (N := 10) hx hb hts in_X1 tyX1 tyX1_ok nmX1 hown hK hP hD hS 0 rfl rfl 0 (by decide) (hts _ q205) (fun _ h9 => h9) rfl (tyX1_ok 0 (by decide)) rfl rfl (Nat.le_of_ble_eq_true rfl) dX1_init_8 (fun H locs hP hD hS => ?_)
  have hP : va_P D vwCl [(h0, .inr (1, [.ref a1, .null, .null, .null, .int 0, .null, .null, .null, .null, .null])), (a1, .inl (cI, 3, .inl (fun _ => 0)))] H := hP
  have hD : va_D A [(h0, .inr (1, [.ref a1, .null, .null, .null, .int 0, .null, .null, .null, .null, .null])), (a1, .inl (cI, 3, .inl (fun _ => 0)))] := hD
  refine lv_aload_n hx hb dX1_init_11 rfl (lv_at hl 0 rfl) ?_
  refine lv_bipush (v := nI 12) hx hb dX1_init_12 (by decide) ?_
  refine va_newa (atype := .int) (a0 := (12, .inl (fun _ => 0))) (ty := .int) (N' := 12) hx hb (hts _ q99) rfl hK hP hD hS hA (fun _ => rfl) (by decide) (by decide) (by decide) (Nat.le_of_ble_eq_true rfl) (Nat.le_of_ble_eq_true rfl) dX1_init_14 (fun a2 k2 H hK hP hD hS => ?_)
  have e1 : cI = k2 := Option.some.inj ((hK.2 0 _ rfl).2.symm.trans (hK.2 1 _ rfl).2)
  subst e1
  have hK : va_K D vwCl [(cI, .int)] s := hK.sub [0] rfl
  have hP : va_P D vwCl [(h0, .inr (1, [.ref a1, .null, .null, .null, .int 0, .null, .null, .null, .null, .null])), (a1, .inl (cI, 3, .inl (fun _ => 0))), (a2, .inl (cI, 12, .inl (fun _ => 0)))] H := hP
  have hD : va_D A [(h0, .inr (1, [.ref a1, .null, .null, .null, .int 0, .null, .null, .null, .null, .null])), (a1, .inl (cI, 3, .inl (fun _ => 0))), (a2, .inl (cI, 12, .inl (fun _ => 0)))] := hD
  refine va_put (D := D) (ci := 1) (v := .ref a2) (ty := tyX1 1) (C := RX1) (T := TX1) (N := 10) hx hb hts in_X1 tyX1 tyX1_ok nmX1 hown hK hP hD hS 0 rfl rfl 1 (by decide) (hts _ q206) (fun _ h9 => h9) rfl (tyX1_ok 1 (by decide)) rfl rfl (Nat.le_of_ble_eq_true rfl) dX1_init_16 (fun H locs hP hD hS => ?_)
  have hP : va_P D vwCl [(h0, .inr (1, [.ref a1, .ref a2, .null, .null, .int 0, .null, .null, .null, .null, .null])), (a1, .inl (cI, 3, .inl (fun _ => 0))), (a2, .inl (cI, 12, .inl (fun _ => 0)))] H := hP
  have hD : va_D A [(h0, .inr (1, [.ref a1, .ref a2, .null, .null, .int 0, .null, .null, .null, .null, .null])), (a1, .inl (cI, 3, .inl (fun _ => 0))), (a2, .inl (cI, 12, .inl (fun _ => 0)))] := hD
  refine lv_aload_n hx hb dX1_init_19 rfl (lv_at hl 0 rfl) ?_
  refine lv_bipush (v := nI 12) hx hb dX1_init_20 (by decide) ?_
  refine va_newa (atype := .int) (a0 := (12, .inl (fun _ => 0))) (ty := .int) (N' := 12) hx hb (hts _ q99) rfl hK hP hD hS hA (fun _ => rfl) (by decide) (by decide) (by decide) (Nat.le_of_ble_eq_true rfl) (Nat.le_of_ble_eq_true rfl) dX1_init_22 (fun a3 k3 H hK hP hD hS => ?_)
  have e2 : cI = k3 := Option.some.inj ((hK.2 0 _ rfl).2.symm.trans (hK.2 1 _ rfl).2)
  subst e2
  have hK : va_K D vwCl [(cI, .int)] s := hK.sub [0] rfl
  have hP : va_P D vwCl [(h0, .inr (1, [.ref a1, .ref a2, .null, .null, .int 0, .null, .null, .null, .null, .null])), (a1, .inl (cI, 3, .inl (fun _ => 0))), (a2, .inl (cI, 12, .inl (fun _ => 0))), (a3, .inl (cI, 12, .inl (fun _ => 0)))] H := hP
  have hD : va_D A [(h0, .inr (1, [.ref a1, .ref a2, .null, .null, .int 0, .null, .null, .null, .null, .null])), (a1, .inl (cI, 3, .inl (fun _ => 0))), (a2, .inl (cI, 12, .inl (fun _ => 0))), (a3, .inl (cI, 12, .inl (fun _ => 0)))] := hD
  refine va_put (D := D) (ci := 1) (v := .ref a3) (ty := tyX1 2) (C := RX1) (T := TX1) (N := 10) hx hb hts in_X1 tyX1 tyX1_ok nmX1 hown hK hP hD hS 0 rfl rfl 2 (by decide) (hts _ q207) (fun _ h9 => h9) rfl (tyX1_ok 2 (by decide)) rfl rfl (Nat.le_of_ble_eq_true rfl) dX1_init_24 (fun H locs hP hD hS => ?_)
  have hP : va_P D vwCl [(h0, .inr (1, [.ref a1, .ref a2, .ref a3, .null, .int 0, .null, .null, .null, .null, .null])), (a1, .inl (cI, 3, .inl (fun _ => 0))), (a2, .inl (cI, 12, .inl (fun _ => 0))), (a3, .inl (cI, 12, .inl (fun _ => 0)))] H := hP
  have hD : va_D A [(h0, .inr (1, [.ref a1, .ref a2, .ref a3, .null, .int 0, .null, .null, .null, .null, .null])), (a1, .inl (cI, 3, .inl (fun _ => 0))), (a2, .inl (cI, 12, .inl (fun _ => 0))), (a3, .inl (cI, 12, .inl (fun _ => 0)))] := hD
  refine lv_aload_n hx hb dX1_init_27 rfl (lv_at hl 0 rfl) ?_
  refine lv_bipush (v := nI 6) hx hb dX1_init_28 (by decide) ?_
  refine va_newa (atype := .int) (a0 := (6, .inl (fun _ => 0))) (ty := .int) (N' := 6) hx hb (hts _ q99) rfl hK hP hD hS hA (fun _ => rfl) (by decide) (by decide) (by decide) (Nat.le_of_ble_eq_true rfl) (Nat.le_of_ble_eq_true rfl) dX1_init_30 (fun a4 k4 H hK hP hD hS => ?_)
  have e3 : cI = k4 := Option.some.inj ((hK.2 0 _ rfl).2.symm.trans (hK.2 1 _ rfl).2)
  subst e3
  have hK : va_K D vwCl [(cI, .int)] s := hK.sub [0] rfl
  have hP : va_P D vwCl [(h0, .inr (1, [.ref a1, .ref a2, .ref a3, .null, .int 0, .null, .null, .null, .null, .null])), (a1, .inl (cI, 3, .inl (fun _ => 0))), (a2, .inl (cI, 12, .inl (fun _ => 0))), (a3, .inl (cI, 12, .inl (fun _ => 0))), (a4, .inl (cI, 6, .inl (fun _ => 0)))] H := hP
  have hD : va_D A [(h0, .inr (1, [.ref a1, .ref a2, .ref a3, .null, .int 0, .null, .null, .null, .null, .null])), (a1, .inl (cI, 3, .inl (fun _ => 0))), (a2, .inl (cI, 12, .inl (fun _ => 0))), (a3, .inl (cI, 12, .inl (fun _ => 0))), (a4, .inl (cI, 6, .inl (fun _ => 0)))] := hD
  refine va_put (D := D) (ci := 1) (v := .ref a4) (ty := tyX1 3) (C := RX1) (T := TX1) (N := 10) hx hb hts in_X1 tyX1 tyX1_ok nmX1 hown hK hP hD hS 0 rfl rfl 3 (by decide) (hts _ q208) (fun _ h9 => h9) rfl (tyX1_ok 3 (by decide)) rfl rfl (Nat.le_of_ble_eq_true rfl) dX1_init_32 (fun H locs hP hD hS => ?_)
  have hP : va_P D vwCl [(h0, .inr (1, [.ref a1, .ref a2, .ref a3, .ref a4, .int 0, .null, .null, .null, .null, .null])), (a1, .inl (cI, 3, .inl (fun _ => 0))), (a2, .inl (cI, 12, .inl (fun _ => 0))), (a3, .inl (cI, 12, .inl (fun _ => 0))), (a4, .inl (cI, 6, .inl (fun _ => 0)))] H := hP
  have hD : va_D A [(h0, .inr (1, [.ref a1, .ref a2, .ref a3, .ref a4, .int 0, .null, .null, .null, .null, .null])), (a1, .inl (cI, 3, .inl (fun _ => 0))), (a2, .inl (cI, 12, .inl (fun _ => 0))), (a3, .inl (cI, 12, .inl (fun _ => 0))), (a4, .inl (cI, 6, .inl (fun _ => 0)))] := hD
  refine lv_aload_n hx hb dX1_init_35 rfl (lv_at hl 0 rfl) ?_
  refine lv_bipush (v := nI 12) hx hb dX1_init_36 (by decide) ?_
  refine va_newa (atype := .int) (a0 := (12, .inl (fun _ => 0))) (ty := .int) (N' := 12) hx hb (hts _ q99) rfl hK hP hD hS hA (fun _ => rfl) (by decide) (by decide) (by decide) (Nat.le_of_ble_eq_true rfl) (Nat.le_of_ble_eq_true rfl) dX1_init_38 (fun a5 k5 H hK hP hD hS => ?_)
  have e4 : cI = k5 := Option.some.inj ((hK.2 0 _ rfl).2.symm.trans (hK.2 1 _ rfl).2)
  subst e4
  have hK : va_K D vwCl [(cI, .int)] s := hK.sub [0] rfl
  have hP : va_P D vwCl [(h0, .inr (1, [.ref a1, .ref a2, .ref a3, .ref a4, .int 0, .null, .null, .null, .null, .null])), (a1, .inl (cI, 3, .inl (fun _ => 0))), (a2, .inl (cI, 12, .inl (fun _ => 0))), (a3, .inl (cI, 12, .inl (fun _ => 0))), (a4, .inl (cI, 6, .inl (fun _ => 0))), (a5, .inl (cI, 12, .inl (fun _ => 0)))] H := hP
  have hD : va_D A [(h0, .inr (1, [.ref a1, .ref a2, .ref a3, .ref a4, .int 0, .null, .null, .null, .null, .null])), (a1, .inl (cI, 3, .inl (fun _ => 0))), (a2, .inl (cI, 12, .inl (fun _ => 0))), (a3, .inl (cI, 12, .inl (fun _ => 0))), (a4, .inl (cI, 6, .inl (fun _ => 0))), (a5, .inl (cI, 12, .inl (fun _ => 0)))] := hD
  refine va_put (D := D) (ci := 1) (v := .ref a5) (ty := tyX1 5) (C := RX1) (T := TX1) (N := 10) hx hb hts in_X1 tyX1 tyX1_ok nmX1 hown hK hP hD hS 0 rfl rfl 5 (by decide) (hts _ q210) (fun _ h9 => h9) rfl (tyX1_ok 5 (by decide)) rfl rfl (Nat.le_of_ble_eq_true rfl) dX1_init_40 (fun H locs hP hD hS => ?_)
  have hP : va_P D vwCl [(h0, .inr (1, [.ref a1, .ref a2, .ref a3, .ref a4, .int 0, .ref a5, .null, .null, .null, .null])), (a1, .inl (cI, 3, .inl (fun _ => 0))), (a2, .inl (cI, 12, .inl (fun _ => 0))), (a3, .inl (cI, 12, .inl (fun _ => 0))), (a4, .inl (cI, 6, .inl (fun _ => 0))), (a5, .inl (cI, 12, .inl (fun _ => 0)))] H := hP
  have hD : va_D A [(h0, .inr (1, [.ref a1, .ref a2, .ref a3, .ref a4, .int 0, .ref a5, .null, .null, .null, .null])), (a1, .inl (cI, 3, .inl (fun _ => 0))), (a2, .inl (cI, 12, .inl (fun _ => 0))), (a3, .inl (cI, 12, .inl (fun _ => 0))), (a4, .inl (cI, 6, .inl (fun _ => 0))), (a5, .inl (cI, 12, .inl (fun _ => 0)))] := hD
  refine lv_aload_n hx hb dX1_init_43 rfl (lv_at hl 0 rfl) ?_
  refine lv_bipush (v := nI 12) hx hb dX1_init_44 (by decide) ?_
  refine va_newa (atype := .int) (a0 := (12, .inl (fun _ => 0))) (ty := .int) (N' := 12) hx hb (hts _ q99) rfl hK hP hD hS hA (fun _ => rfl) (by decide) (by decide) (by decide) (Nat.le_of_ble_eq_true rfl) (Nat.le_of_ble_eq_true rfl) dX1_init_46 (fun a6 k6 H hK hP hD hS => ?_)
  have e5 : cI = k6 := Option.some.inj ((hK.2 0 _ rfl).2.symm.trans (hK.2 1 _ rfl).2)
  subst e5
  have hK : va_K D vwCl [(cI, .int)] s := hK.sub [0] rfl
  have hP : va_P D vwCl [(h0, .inr (1, [.ref a1, .ref a2, .ref a3, .ref a4, .int 0, .ref a5, .null, .null, .null, .null])), (a1, .inl (cI, 3, .inl (fun _ => 0))), (a2, .inl (cI, 12, .inl (fun _ => 0))), (a3, .inl (cI, 12, .inl (fun _ => 0))), (a4, .inl (cI, 6, .inl (fun _ => 0))), (a5, .inl (cI, 12, .inl (fun _ => 0))), (a6, .inl (cI, 12, .inl (fun _ => 0)))] H := hP
  have hD : va_D A [(h0, .inr (1, [.ref a1, .ref a2, .ref a3, .ref a4, .int 0, .ref a5, .null, .null, .null, .null])), (a1, .inl (cI, 3, .inl (fun _ => 0))), (a2, .inl (cI, 12, .inl (fun _ => 0))), (a3, .inl (cI, 12, .inl (fun _ => 0))), (a4, .inl (cI, 6, .inl (fun _ => 0))), (a5, .inl (cI, 12, .inl (fun _ => 0))), (a6, .inl (cI, 12, .inl (fun _ => 0)))] := hD
  refine va_put (D := D) (ci := 1) (v := .ref a6) (ty := tyX1 6) (C := RX1) (T := TX1) (N := 10) hx hb hts in_X1 tyX1 tyX1_ok nmX1 hown hK hP hD hS 0 rfl rfl 6 (by decide) (hts _ q211) (fun _ h9 => h9) rfl (tyX1_ok 6 (by decide)) rfl rfl (Nat.le_of_ble_eq_true rfl) dX1_init_48 (fun H locs hP hD hS => ?_)
  have hP : va_P D vwCl [(h0, .inr (1, [.ref a1, .ref a2, .ref a3, .ref a4, .int 0, .ref a5, .ref a6, .null, .null, .null])), (a1, .inl (cI, 3, .inl (fun _ => 0))), (a2, .inl (cI, 12, .inl (fun _ => 0))), (a3, .inl (cI, 12, .inl (fun _ => 0))), (a4, .inl (cI, 6, .inl (fun _ => 0))), (a5, .inl (cI, 12, .inl (fun _ => 0))), (a6, .inl (cI, 12, .inl (fun _ => 0)))] H := hP
  have hD : va_D A [(h0, .inr (1, [.ref a1, .ref a2, .ref a3, .ref a4, .int 0, .ref a5, .ref a6, .null, .null, .null])), (a1, .inl (cI, 3, .inl (fun _ => 0))), (a2, .inl (cI, 12, .inl (fun _ => 0))), (a3, .inl (cI, 12, .inl (fun _ => 0))), (a4, .inl (cI, 6, .inl (fun _ => 0))), (a5, .inl (cI, 12, .inl (fun _ => 0))), (a6, .inl (cI, 12, .inl (fun _ => 0)))] := hD
  refine lv_aload_n hx hb dX1_init_51 rfl (lv_at hl 0 rfl) ?_
  refine lv_bipush (v := nI 6) hx hb dX1_init_52 (by decide) ?_
  refine va_newa (atype := .int) (a0 := (6, .inl (fun _ => 0))) (ty := .int) (N' := 6) hx hb (hts _ q99) rfl hK hP hD hS hA (fun _ => rfl) (by decide) (by decide) (by decide) (Nat.le_of_ble_eq_true rfl) (Nat.le_of_ble_eq_true rfl) dX1_init_54 (fun a7 k7 H hK hP hD hS => ?_)
  have e6 : cI = k7 := Option.some.inj ((hK.2 0 _ rfl).2.symm.trans (hK.2 1 _ rfl).2)
  subst e6
  have hK : va_K D vwCl [(cI, .int)] s := hK.sub [0] rfl
  have hP : va_P D vwCl [(h0, .inr (1, [.ref a1, .ref a2, .ref a3, .ref a4, .int 0, .ref a5, .ref a6, .null, .null, .null])), (a1, .inl (cI, 3, .inl (fun _ => 0))), (a2, .inl (cI, 12, .inl (fun _ => 0))), (a3, .inl (cI, 12, .inl (fun _ => 0))), (a4, .inl (cI, 6, .inl (fun _ => 0))), (a5, .inl (cI, 12, .inl (fun _ => 0))), (a6, .inl (cI, 12, .inl (fun _ => 0))), (a7, .inl (cI, 6, .inl (fun _ => 0)))] H := hP
  have hD : va_D A [(h0, .inr (1, [.ref a1, .ref a2, .ref a3, .ref a4, .int 0, .ref a5, .ref a6, .null, .null, .null])), (a1, .inl (cI, 3, .inl (fun _ => 0))), (a2, .inl (cI, 12, .inl (fun _ => 0))), (a3, .inl (cI, 12, .inl (fun _ => 0))), (a4, .inl (cI, 6, .inl (fun _ => 0))), (a5, .inl (cI, 12, .inl (fun _ => 0))), (a6, .inl (cI, 12, .inl (fun _ => 0))), (a7, .inl (cI, 6, .inl (fun _ => 0)))] := hD
  refine va_put (D := D) (ci := 1) (v := .ref a7) (ty := tyX1 7) (C := RX1) (T := TX1) (N := 10) hx hb hts in_X1 tyX1 tyX1_ok nmX1 hown hK hP hD hS 0 rfl rfl 7 (by decide) (hts _ q212) (fun _ h9 => h9) rfl (tyX1_ok 7 (by decide)) rfl rfl (Nat.le_of_ble_eq_true rfl) dX1_init_56 (fun H locs hP hD hS => ?_)
  have hP : va_P D vwCl [(h0, .inr (1, [.ref a1, .ref a2, .ref a3, .ref a4, .int 0, .ref a5, .ref a6, .ref a7, .null, .null])), (a1, .inl (cI, 3, .inl (fun _ => 0))), (a2, .inl (cI, 12, .inl (fun _ => 0))), (a3, .inl (cI, 12, .inl (fun _ => 0))), (a4, .inl (cI, 6, .inl (fun _ => 0))), (a5, .inl (cI, 12, .inl (fun _ => 0))), (a6, .inl (cI, 12, .inl (fun _ => 0))), (a7, .inl (cI, 6, .inl (fun _ => 0)))] H := hP
  have hD : va_D A [(h0, .inr (1, [.ref a1, .ref a2, .ref a3, .ref a4, .int 0, .ref a5, .ref a6, .ref a7, .null, .null])), (a1, .inl (cI, 3, .inl (fun _ => 0))), (a2, .inl (cI, 12, .inl (fun _ => 0))), (a3, .inl (cI, 12, .inl (fun _ => 0))), (a4, .inl (cI, 6, .inl (fun _ => 0))), (a5, .inl (cI, 12, .inl (fun _ => 0))), (a6, .inl (cI, 12, .inl (fun _ => 0))), (a7, .inl (cI, 6, .inl (fun _ => 0)))] := hD
  refine lv_aload_n hx hb dX1_init_59 rfl (lv_at hl 0 rfl) ?_
  refine lv_iconst (v := nI 3) hx hb dX1_init_60 (by decide) ?_
  refine va_newa (atype := .int) (a0 := (3, .inl (fun _ => 0))) (ty := .int) (N' := 3) hx hb (hts _ q99) rfl hK hP hD hS hA (fun _ => rfl) (by decide) (by decide) (by decide) (Nat.le_of_ble_eq_true rfl) (Nat.le_of_ble_eq_true rfl) dX1_init_61 (fun a8 k8 H hK hP hD hS => ?_)
  have e7 : cI = k8 := Option.some.inj ((hK.2 0 _ rfl).2.symm.trans (hK.2 1 _ rfl).2)
  subst e7
  have hK : va_K D vwCl [(cI, .int)] s := hK.sub [0] rfl
  have hP : va_P D vwCl [(h0, .inr (1, [.ref a1, .ref a2, .ref a3, .ref a4, .int 0, .ref a5, .ref a6, .ref a7, .null, .null])), (a1, .inl (cI, 3, .inl (fun _ => 0))), (a2, .inl (cI, 12, .inl (fun _ => 0))), (a3, .inl (cI, 12, .inl (fun _ => 0))), (a4, .inl (cI, 6, .inl (fun _ => 0))), (a5, .inl (cI, 12, .inl (fun _ => 0))), (a6, .inl (cI, 12, .inl (fun _ => 0))), (a7, .inl (cI, 6, .inl (fun _ => 0))), (a8, .inl (cI, 3, .inl (fun _ => 0)))] H := hP
  have hD : va_D A [(h0, .inr (1, [.ref a1, .ref a2, .ref a3, .ref a4, .int 0, .ref a5, .ref a6, .ref a7, .null, .null])), (a1, .inl (cI, 3, .inl (fun _ => 0))), (a2, .inl (cI, 12, .inl (fun _ => 0))), (a3, .inl (cI, 12, .inl (fun _ => 0))), (a4, .inl (cI, 6, .inl (fun _ => 0))), (a5, .inl (cI, 12, .inl (fun _ => 0))), (a6, .inl (cI, 12, .inl (fun _ => 0))), (a7, .inl (cI, 6, .inl (fun _ => 0))), (a8, .inl (cI, 3, .inl (fun _ => 0)))] := hD
  refine va_put (D := D) (ci := 1) (v := .ref a8) (ty := tyX1 8) (C := RX1) (T := TX1) (N := 10) hx hb hts in_X1 tyX1 tyX1_ok nmX1 hown hK hP hD hS 0 rfl rfl 8 (by decide) (hts _ q213) (fun _ h9 => h9) rfl (tyX1_ok 8 (by decide)) rfl rfl (Nat.le_of_ble_eq_true rfl) dX1_init_63 (fun H locs hP hD hS => ?_)
  have hP : va_P D vwCl [(h0, .inr (1, [.ref a1, .ref a2, .ref a3, .ref a4, .int 0, .ref a5, .ref a6, .ref a7, .ref a8, .null])), (a1, .inl (cI, 3, .inl (fun _ => 0))), (a2, .inl (cI, 12, .inl (fun _ => 0))), (a3, .inl (cI, 12, .inl (fun _ => 0))), (a4, .inl (cI, 6, .inl (fun _ => 0))), (a5, .inl (cI, 12, .inl (fun _ => 0))), (a6, .inl (cI, 12, .inl (fun _ => 0))), (a7, .inl (cI, 6, .inl (fun _ => 0))), (a8, .inl (cI, 3, .inl (fun _ => 0)))] H := hP
  have hD : va_D A [(h0, .inr (1, [.ref a1, .ref a2, .ref a3, .ref a4, .int 0, .ref a5, .ref a6, .ref a7, .ref a8, .null])), (a1, .inl (cI, 3, .inl (fun _ => 0))), (a2, .inl (cI, 12, .inl (fun _ => 0))), (a3, .inl (cI, 12, .inl (fun _ => 0))), (a4, .inl (cI, 6, .inl (fun _ => 0))), (a5, .inl (cI, 12, .inl (fun _ => 0))), (a6, .inl (cI, 12, .inl (fun _ => 0))), (a7, .inl (cI, 6, .inl (fun _ => 0))), (a8, .inl (cI, 3, .inl (fun _ => 0)))] := hD
  refine lv_aload_n hx hb dX1_init_66 rfl (lv_at hl 0 rfl) ?_
  refine lv_iconst (v := nI 2) hx hb dX1_init_67 (by decide) ?_
  refine va_newa (atype := .int) (a0 := (2, .inl (fun _ => 0))) (ty := .int) (N' := 2) hx hb (hts _ q99) rfl hK hP hD hS hA (fun _ => rfl) (by decide) (by decide) (by decide) (Nat.le_of_ble_eq_true rfl) (Nat.le_of_ble_eq_true rfl) dX1_init_68 (fun a9 k9 H hK hP hD hS => ?_)
  have e8 : cI = k9 := Option.some.inj ((hK.2 0 _ rfl).2.symm.trans (hK.2 1 _ rfl).2)
  subst e8
  have hK : va_K D vwCl [(cI, .int)] s := hK.sub [0] rfl
  have hP : va_P D vwCl [(h0, .inr (1, [.ref a1, .ref a2, .ref a3, .ref a4, .int 0, .ref a5, .ref a6, .ref a7, .ref a8, .null])), (a1, .inl (cI, 3, .inl (fun _ => 0))), (a2, .inl (cI, 12, .inl (fun _ => 0))), (a3, .inl (cI, 12, .inl (fun _ => 0))), (a4, .inl (cI, 6, .inl (fun _ => 0))), (a5, .inl (cI, 12, .inl (fun _ => 0))), (a6, .inl (cI, 12, .inl (fun _ => 0))), (a7, .inl (cI, 6, .inl (fun _ => 0))), (a8, .inl (cI, 3, .inl (fun _ => 0))), (a9, .inl (cI, 2, .inl (fun _ => 0)))] H := hP
  have hD : va_D A [(h0, .inr (1, [.ref a1, .ref a2, .ref a3, .ref a4, .int 0, .ref a5, .ref a6, .ref a7, .ref a8, .null])), (a1, .inl (cI, 3, .inl (fun _ => 0))), (a2, .inl (cI, 12, .inl (fun _ => 0))), (a3, .inl (cI, 12, .inl (fun _ => 0))), (a4, .inl (cI, 6, .inl (fun _ => 0))), (a5, .inl (cI, 12, .inl (fun _ => 0))), (a6, .inl (cI, 12, .inl (fun _ => 0))), (a7, .inl (cI, 6, .inl (fun _ => 0))), (a8, .inl (cI, 3, .inl (fun _ => 0))), (a9, .inl (cI, 2, .inl (fun _ => 0)))] := hD
  refine va_put (D := D) (ci := 1) (v := .ref a9) (ty := tyX1 9) (C := RX1) (T := TX1) (N := 10) hx hb hts in_X1 tyX1 tyX1_ok nmX1 hown hK hP hD hS 0 rfl rfl 9 (by decide) (hts _ q214) (fun _ h9 => h9) rfl (tyX1_ok 9 (by decide)) rfl rfl (Nat.le_of_ble_eq_true rfl) dX1_init_70 (fun H locs hP hD hS => ?_)
  have hP : va_P D vwCl [(h0, .inr (1, [.ref a1, .ref a2, .ref a3, .ref a4, .int 0, .ref a5, .ref a6, .ref a7, .ref a8, .ref a9])), (a1, .inl (cI, 3, .inl (fun _ => 0))), (a2, .inl (cI, 12, .inl (fun _ => 0))), (a3, .inl (cI, 12, .inl (fun _ => 0))), (a4, .inl (cI, 6, .inl (fun _ => 0))), (a5, .inl (cI, 12, .inl (fun _ => 0))), (a6, .inl (cI, 12, .inl (fun _ => 0))), (a7, .inl (cI, 6, .inl (fun _ => 0))), (a8, .inl (cI, 3, .inl (fun _ => 0))), (a9, .inl (cI, 2, .inl (fun _ => 0)))] H := hP
  have hD : va_D A [(h0, .inr (1, [.ref a1, .ref a2, .ref a3, .ref a4, .int 0, .ref a5, .ref a6, .ref a7, .ref a8, .ref a9])), (a1, .inl (cI, 3, .inl (fun _ => 0))), (a2, .inl (cI, 12, .inl (fun _ => 0))), (a3, .inl (cI, 12, .inl (fun _ => 0))), (a4, .inl (cI, 6, .inl (fun _ => 0))), (a5, .inl (cI, 12, .inl (fun _ => 0))), (a6, .inl (cI, 12, .inl (fun _ => 0))), (a7, .inl (cI, 6, .inl (fun _ => 0))), (a8, .inl (cI, 3, .inl (fun _ => 0))), (a9, .inl (cI, 2, .inl (fun _ => 0)))] := hD
  have hB : pB ((fun _ => 0, fun _ => 0, fun _ => 0, fun _ => 0, fun _ => 0) : Pg) = fun _ => 0 := by
    funext i
    unfold pB
    split <;> rfl
  have eW : mW (fun k => [h0, a1, a2, a3, a4, a5, a6, a7, a8, a9].getD k 0) cI ((fun _ => 0, fun _ => 0, fun _ => 0, fun _ => 0, fun _ => 0) : Pg) 0 (fun _ => 0) (fun _ => 0) (fun _ => 0) (fun _ => 0) (fun _ => 0) = [(h0, .inr (1, [.ref a1, .ref a2, .ref a3, .ref a4, .int 0, .ref a5, .ref a6, .ref a7, .ref a8, .ref a9])), (a1, .inl (cI, 3, .inl (fun _ => 0))), (a2, .inl (cI, 12, .inl (fun _ => 0))), (a3, .inl (cI, 12, .inl (fun _ => 0))), (a4, .inl (cI, 6, .inl (fun _ => 0))), (a5, .inl (cI, 12, .inl (fun _ => 0))), (a6, .inl (cI, 12, .inl (fun _ => 0))), (a7, .inl (cI, 6, .inl (fun _ => 0))), (a8, .inl (cI, 3, .inl (fun _ => 0))), (a9, .inl (cI, 2, .inl (fun _ => 0)))] := by
    unfold mW
    rw [hB]
    rfl
  rw [← eW] at hP hD
  have hP9 : va_P D vwCl (mW (fun k => [h0, a1, a2, a3, a4, a5, a6, a7, a8, a9].getD k 0) cI ((fun _ => 0, fun _ => 0, fun _ => 0, fun _ => 0, fun _ => 0) : Pg) 0 (fun _ => 0) (fun _ => 0) (fun _ => 0) (fun _ => 0) (fun _ => 0)) H := hP
  have hD9 : va_D A (mW (fun k => [h0, a1, a2, a3, a4, a5, a6, a7, a8, a9].getD k 0) cI ((fun _ => 0, fun _ => 0, fun _ => 0, fun _ => 0, fun _ => 0) : Pg) 0 (fun _ => 0) (fun _ => 0) (fun _ => 0) (fun _ => 0) (fun _ => 0)) := hD
  have hK9 : va_K D vwCl [(cI, .int)] s := hK
  exact W.vret hx hb hr (fun t ht hW => ⟨⟨((fun k => [h0, a1, a2, a3, a4, a5, a6, a7, a8, a9].getD k 0), cI), rfl, rfl, by rw [ht]; exact hP9, va_K.moved hW.alike hK9, hD9⟩, hS.F ht⟩) hS.2.2 dX1_init_73
end
section
-- ===== end of PART A; then your names; then what follows =====
/-! THE CLAIM OUT OF ONE WALK OF THE LAW'S BODY. Your part is whole_start (and what it stands on); all else here is the same for every law, but numbers. -/
def R_law : String := "ScheduleReducerLaw"
def lw_P (b : Addr) (xs : List Int32) (args : Array Value) (s : State) : Prop := args = #[.ref b] ∧ s.IntsAt b xs ∧ xs.length ≤ 320 ∧ (Jvm.Cond.and given_1 narrow_1).before args s = true
def lw_Q (_ : Array Value) (s : State) (o : Outcome) (t : State) : Prop := o = .returned (some (.int 1)) ∧ Framed s o t [] 600000 7290000
def lw_Z (below : List Frame) (a : Array Value) (s : State) : State → Prop := fun t => ∃ o, t.status = .running ∧ Ended t below o ∧ lw_Q a s o t
/-- the law's own end, with 1 on the stack, nothing written that was there before, its room as the claim has it -/
theorem lw_ret {p : Program} {l : Launch} {e : Env} {s : State} {m : MethodId} {below : List Frame} {meth : Method} {c : Code} {b : Nat} (hx : p.tables.exec = Jvm.exec) (hb : c.code = code) (hr : meth.sig.returnType = ret) (hlocks : meth.locks = false) {pc : Nat} {H : Heap} {ls : Array Slot} (hdg : decode code pc = .ok (.ireturn, 1)) : W p l e room_1 s m #[Value.ref b] below meth c H [] 600000 7290000 (lw_Z below #[Value.ref b] s) (F0 m pc ls [.int 1]) := by
  intro T hT X
  obtain ⟨fs, hret, hrun, hended, hW, hframe⟩ := X.leave (v := some (.int 1)) (hlocks := hlocks) (fun h => by rw [hr] at h; cases h)
  have hmeth' : T.vm.method? m = some meth := X.method'
  refine ⟨T.setFrames fs, ?_, .returned (some (.int 1)), hrun, hended, rfl, ⟨_, rfl⟩, hW, hframe⟩
  jvm_step X.here [X.here.top, hx, hb, hdg, hmeth', hr, ret, narrow_b1]
  (try refine ⟨rfl, ?_⟩); (try refine ⟨rfl, ?_⟩)
  first | (intro acts; rw [hret _ acts rfl rfl rfl]) | rw [hret _ _ rfl rfl rfl]
  exact Steps.refl _
/-- what holds at the law's entry: the machine, the code, the tables' words (any of lw_tbl by 'hts w (by decide +kernel)'), the script of L ints xs at the cell b, what the Statement gives of the start (any of its parts by flat_of_before) -/
def lw_At (p : Program) (s : State) (m : MethodId) (meth : Method) (c : Code) (b L : Nat) (xs : Nat → Int32) : Prop :=
  p.tables.exec = Jvm.exec ∧ c.code = code ∧ meth.sig.returnType = ret ∧ c.maxLocals = 4 ∧ s.vm.findClass R_law = some m.cls ∧ (∀ w ∈ lw_tbl, w.before #[Value.ref b] s = true) ∧ va_X b L xs s s.heap ∧ b < s.heap.size ∧ meth.locks = false ∧ (Jvm.Cond.and given_1 narrow_1).before #[Value.ref b] s = true
end
section
/-! rows of the law: its script, its switch, calls on one of the two objects -/
section LR
variable {X : Cx} {cc : ByteArray} {own : String} {nL fr lo : Nat} {cB cI : ClassId} {w : va_W} {lv : List (Nat × Value)} {pc : Nat} {rest : List Value} {a : Nat}
theorem ww_sld (hX : Fx X cc own nL fr lo cB cI) {b L : Nat} {xs : Nat → Int32} (hs : va_X b L xs (cx_s X) (cx_s X).heap) (hbl : b < (cx_s X).heap.size) (hbA : ¬ cx_A X b) (h : a < L) (hL : L < 2 ^ 31) (hd : decode cc pc = .ok (.iaload, 1)) (k : ww X w lv (pc + 1) (.int (xs a) :: rest)) : ww X w lv pc (.int (nI a) :: .ref b :: rest) :=
  fun H locs ls hP hD hS hl => va_sld hX.x hX.b hs hbl hbA hS (vp_in_nI h hL) hd (by rw [nI_clamp (by omega)]; exact k H locs ls hP hD hS hl)
theorem ww_slen (hX : Fx X cc own nL fr lo cB cI) {b L : Nat} {xs : Nat → Int32} (hs : va_X b L xs (cx_s X) (cx_s X).heap) (hbl : b < (cx_s X).heap.size) (hbA : ¬ cx_A X b) (hd : decode cc pc = .ok (.arraylength, 1)) (k : ww X w lv (pc + 1) (.int (nI L) :: rest)) : ww X w lv pc (.ref b :: rest) :=
  fun H locs ls hP hD hS hl => va_slen hX.x hX.b hs hbl hbA hS hd (k H locs ls hP hD hS hl)
theorem ww_tableOut (hX : Fx X cc own nL fr lo cB cI) {dflt lo' hi : Int} {offs : Array Int} {len : Nat} {x : Int32} {tgt : Nat} (hd : decode cc pc = .ok (.tableswitch dflt lo' hi offs, len)) (h : x.toInt < lo' ∨ hi < x.toInt) (ht : (pc : Int) + dflt = (tgt : Int)) (k : ww X w lv tgt rest) : ww X w lv pc (.int x :: rest) :=
  fun H locs ls hP hD hS hl => lv_tableOut hX.x hX.b hd h ht (k H locs ls hP hD hS hl)
theorem ww_tableIn (hX : Fx X cc own nL fr lo cB cI) {dflt lo' hi : Int} {offs : Array Int} {len : Nat} {x : Int32} {off : Int} {tgt : Nat} (hd : decode cc pc = .ok (.tableswitch dflt lo' hi offs, len)) (h1 : ¬ x.toInt < lo') (h2 : ¬ hi < x.toInt) (ho : offs[(x.toInt - lo').toNat]? = some off) (ht : (pc : Int) + off = (tgt : Int)) (k : ww X w lv tgt rest) : ww X w lv pc (.int x :: rest) :=
  fun H locs ls hP hD hS hl => lv_tableIn hX.x hX.b hd h1 h2 ho ht (k H locs ls hP hD hS hl)
theorem va_P_l {D : va_G} {cl : List vw_C} {w1 w2 : va_W} {H : Heap} (h : va_P D cl (w1 ++ w2) H) : va_P D cl w1 H := fun k q hk => h k q (by rw [List.getElem?_append_left (List.getElem?_eq_some_iff.mp hk).1]; exact hk)
theorem va_P_r {D : va_G} {cl : List vw_C} {w1 w2 : va_W} {H : Heap} (h : va_P D cl (w1 ++ w2) H) : va_P D cl w2 H := fun k q hk => h (w1.length + k) q (by rw [List.getElem?_append_right (by omega), Nat.add_sub_cancel_left]; exact hk)
theorem va_D_l {A : Nat → Prop} {w1 w2 : va_W} (h : va_D A (w1 ++ w2)) : va_D A w1 := by
  have key : ∀ (k : Nat) (q : Nat × va_E), w1[k]? = some q → (w1 ++ w2)[k]? = some q := fun k q hk => by rw [List.getElem?_append_left (List.getElem?_eq_some_iff.mp hk).1]; exact hk
  exact ⟨fun i j p q hi hj e => h.1 i j p q (key i p hi) (key j q hj) e, fun k q hk => h.2 k q (key k q hk)⟩
theorem va_D_r {A : Nat → Prop} {w1 w2 : va_W} (h : va_D A (w1 ++ w2)) : va_D A w2 := by
  have key : ∀ (k : Nat) (q : Nat × va_E), w2[k]? = some q → (w1 ++ w2)[w1.length + k]? = some q := fun k q hk => by rw [List.getElem?_append_right (by omega), Nat.add_sub_cancel_left]; exact hk
  exact ⟨fun i j p q hi hj e => by have := h.1 _ _ p q (key i p hi) (key j q hj) e; omega, fun k q hk => h.2 _ q (key k q hk)⟩
/-- a call on the first object's cells; the others stay -/
theorem ww_callIL {wc wr : va_W} {y : MethodName} {bytes : ByteArray} {mL fr' lo' idx n h0 : Nat} {ty : FieldType} {C : String} {As st : List Value} (hX : Fx X cc own nL fr lo cB cI) {post : Int32 → va_W → Prop} (hM : MI (cx_l X) (cx_D X) cB cI y bytes mL (some ty) fr' lo' (.ref h0 :: As) wc post) (hG : GoodIn lw_all (wsV own idx C y (ws_ y bytes mL (some ty)))) (hy : ww_nm y C n) (hn : As.length = n) (hR : fr' + 1 ≤ fr ∧ 8 + (mL + 11) + lo' ≤ lo)
    (q0 ci : Nat) {fs : List Value} {T : u_T} {N : Nat} (hc : vwCl[ci]? = some (C, T, N)) (he : wc[q0]? = some (h0, .inr (ci, fs))) (hst : st = As.reverse ++ .ref h0 :: rest) (hro : (rest.map fun v => v.category).sum ≤ 8) (hd : decode cc pc = .ok (.invokevirtual idx, 3))
    (k : ∀ (r : Int32) (w' : va_W), post r w' → ww X (wr ++ w') lv (pc + 3) (.int r :: rest)) : ww X (wc ++ wr) lv pc st := by
  intro H locs ls hP hD hS hl
  have hPc := va_P_l hP
  have hDc := va_D_l hD
  have hF := ww_free hX hDc hS
  obtain ⟨r1, r2, r3, r4⟩ := hX.R
  refine va_calli (va_runV (As := As) (rest := rest) ⟨hX.x, hX.b, hX.ml, hX.o, hX.ts⟩ (hM H.size) (cwV n hX.ts hG rfl rfl rfl hy ⟨Nat.le_trans hR.1 r3, Nat.le_trans hR.2 r4⟩) ⟨fun a U g mk q => by obtain ⟨q0, q1, qP, qK, qD⟩ := q; exact ⟨q0, q1, qP, va_K.moved (u := U) (U := U.calling g mk a) (Vm.Alike.refl U.vm) qK, qD⟩, va_recv hX.K hPc hc he, fun U hU hW => ⟨rfl, by rw [hU], by rw [hU]; exact hPc, va_K.moved hW.alike hX.K, hDc.weaken (fun _ _ _ _ => trivial)⟩⟩ rfl hn hl.1 hst (lv_room hro) hd ⟨r1, r2⟩) hS (fun q _ h => hF q h) hF (fun r u t H1 locs1 ht hvm hw1 hB hz1 hk1 hS1 => ?_)
  obtain ⟨hP1, hK1, hD1⟩ := hB
  rw [ht] at hP1
  -- the other cells
  have apart : ∀ (i : Nat) (q : Nat × va_E), wr[i]? = some q → q.1 < H.size ∧ ¬ va_A wc H.size q.1 := by
    intro i q hq
    have hq2 : (wc ++ wr)[wc.length + i]? = some q := by rw [List.getElem?_append_right (by omega), Nat.add_sub_cancel_left]; exact hq
    have hlt := (hP _ q hq2).lt
    refine ⟨hlt, fun h => ?_⟩
    rcases h with ⟨k2, e, h⟩ | h
    · have hk2 := (List.getElem?_eq_some_iff.mp h).1
      have h' : (wc ++ wr)[k2]? = some (q.1, e) := by rw [List.getElem?_append_left hk2]; exact h
      have := hD.1 _ _ q (q.1, e) hq2 h' rfl
      omega
    · omega
  refine k r u hw1 H1 locs1 ls (va_P.app (fun i q hq => ?_) hP1) (va_D.app (va_D_r hD) (hD1.weaken (fun _ q _ h => hF q.1 h)) (fun i j x y hx hy hxy => ?_)) hS1 hl
  · obtain ⟨g1, g2⟩ := apart i q hq
    exact (va_P_r hP i q hq).kept (hk1 q.1 g1 g2)
  · exact (apart i x hx).2 (by rw [hxy]; exact hD1.2 j y hy)
end LR
/-! the program stays as the checks leave it -/
theorem pOk_0 : pOk ((fun _ => 0, fun _ => 0, fun _ => 0, fun _ => 0, fun _ => 0) : Pg) := ⟨fun _ => Nat.zero_le 4, fun _ => ⟨Nat.zero_le 5, fun _ => ⟨0, by decide, rfl⟩, fun h => absurd (show 4 ≤ 0 from h) (by decide)⟩⟩
theorem z_stepR_pOk {P : Pg} (hok : pOk P) (t k n : Int32) : pOk (z_stepR P t k n).2 := by
  rcases Classical.em (z_sok t k n) with h | h
  · obtain ⟨tt, kk, ht, hk, rfl, rfl, h1, h2⟩ := h
    rw [z_stepR_ok ht hk h1 h2]
    split
    · next h4 =>
      refine ⟨fun u => ?_, fun i => ?_⟩
      · show va_up (pS P) tt (pS P tt + 1) u ≤ 4
        by_cases hu : u = tt
        · subst hu; rw [va_up_self]; omega
        · rw [va_up_ne _ _ hu]; exact hok.1 u
      · show va_up (pK P) (tt * 4 + pS P tt) kk i ≤ 5 ∧ (va_up (pK P) (tt * 4 + pS P tt) kk i ≤ 2 → ∃ j, j < 3 ∧ va_up (pN P) (tt * 4 + pS P tt) n i = nI j) ∧ (4 ≤ va_up (pK P) (tt * 4 + pS P tt) kk i → ∃ j, j < 2 ∧ va_up (pN P) (tt * 4 + pS P tt) n i = nI j)
        by_cases hi : i = tt * 4 + pS P tt
        · subst hi
          rw [va_up_self, va_up_self]
          exact ⟨hk, h1, h2⟩
        · rw [va_up_ne _ _ hi, va_up_ne _ _ hi]
          exact hok.2 i
    · exact hok
  · rw [z_stepR_bad h]
    exact hok
theorem z_dropR_pOk {P : Pg} (hok : pOk P) (t : Int32) : pOk (z_dropR P t).2 := by
  unfold z_dropR
  split
  · refine ⟨fun u => ?_, hok.2⟩
    show va_up (pS P) t.toNatClampNeg (pS P t.toNatClampNeg - 1) u ≤ 4
    by_cases hu : u = t.toNatClampNeg
    · subst hu; rw [va_up_self]; have := hok.1 t.toNatClampNeg; omega
    · rw [va_up_ne _ _ hu]; exact hok.1 u
  · exact hok
theorem z_begR_pOk {P : Pg} (hok : pOk P) (a x v : Int32) : pOk (z_begR P a x v).2 := by
  unfold z_begR
  split
  · show pOk (if a = nI 0 then _ else _)
    split
    · exact hok
    · exact hok
  · exact hok
theorem z_ix_lt {x : Int32} (h : z_ix x = true) : x.toNatClampNeg < 3 := by
  obtain ⟨j, hj, rfl⟩ := z_ix_of h
  rw [nI_clamp (by omega)]
  exact hj
theorem z_w01_ix {x a : Int32} (h : z_w01 x a = true) : z_ix x = true := by
  unfold z_w01 at h
  rw [Bool.and_eq_true] at h
  exact h.1
theorem lw_cmp {L i : Nat} (hL : L ≤ 320) (hi : i ≤ 325) : nI L - nI 5 < nI i ↔ L < i + 5 := by
  rw [Int32.lt_iff_toInt_lt, pk_sub_toInt (by omega) (by decide), nI_toInt (by omega)]
  omega
theorem z_sum_lt {P : Pg} (hok : pOk P) : z_sum P true 125 < 2 ^ 31 := Nat.lt_of_le_of_lt (z_sum_le hok true) (by decide)
end
section
set_option maxHeartbeats 4000000 in
set_option maxRecDepth 100000 in
/-- the law calls step on both -/
theorem law_case_0 {X : Cx} {cB cI : ClassId} {adx adm : Nat → Nat} {b L : Nat} {xs : Nat → Int32} {i : Nat} {P : Pg} {wx wm : va_W} (hL : L ≤ 320) (hX : Fx X cL_law R_law 4 8 292 cB cI) (hsc : va_X b L xs (cx_s X) (cx_s X).heap) (hbl : b < (cx_s X).heap.size) (hbA : ¬ cx_A X b) (hi : i + 5 ≤ L) (hok : pOk P) (hx : xOK adx cB cI P wx) (hm : mOK adm cI P wm) (K : ∀ (P' : Pg) (wx' wm' : va_W), pOk P' → xOK adx cB cI P' wx' → mOK adm cI P' wm' → ww X (wx' ++ wm') [(0, .ref b), (1, .ref (adx 0)), (2, .ref (adm 0)), (3, .int (nI i))] 442 []) : ww X (wx ++ wm) [(0, .ref b), (1, .ref (adx 0)), (2, .ref (adm 0)), (3, .int (nI i))] 96 [] := by
  obtain ⟨wy, pl, ac, vr, sl, gd, lk, fx, fv, sx, sw, fo, cn, qa, qb, qc, qd, hfx, hsx, rfl⟩ := hx
  obtain ⟨tn, tu, st, va, pt, ho, rfl⟩ := hm
  refine ww_aload_n (pc := 96) hX dL_law_96 1 rfl ?_
  refine ww_aload_n (pc := 97) hX dL_law_97 0 rfl ?_
  refine ww_iload_n (pc := 98) hX dL_law_98 3 rfl ?_
  refine ww_iconst (pc := 99) (v := nI 1) hX dL_law_99 (by decide) ?_
  refine ww_iaddN (pc := 100) hX dL_law_100 ?_
  refine ww_sld (pc := 101) hX hsc hbl hbA (by omega) (by omega) dL_law_101 ?_
  refine ww_aload_n (pc := 102) hX dL_law_102 0 rfl ?_
  refine ww_iload_n (pc := 103) hX dL_law_103 3 rfl ?_
  refine ww_iconst (pc := 104) (v := nI 2) hX dL_law_104 (by decide) ?_
  refine ww_iaddN (pc := 105) hX dL_law_105 ?_
  refine ww_sld (pc := 106) hX hsc hbl hbA (by omega) (by omega) dL_law_106 ?_
  refine ww_aload_n (pc := 107) hX dL_law_107 0 rfl ?_
  refine ww_iload_n (pc := 108) hX dL_law_108 3 rfl ?_
  refine ww_iconst (pc := 109) (v := nI 3) hX dL_law_109 (by decide) ?_
  refine ww_iaddN (pc := 110) hX dL_law_110 ?_
  refine ww_sld (pc := 111) hX hsc hbl hbA (by omega) (by omega) dL_law_111 ?_
  refine ww_callIL (pc := 112) (n := 3) (rest := []) hX (xm_step _ _ _ hok hfx hsx) (lw_V q100 q101 q102 q21 q103) (by decide +kernel) rfl ⟨by decide, by decide⟩ 0 0 rfl rfl rfl (Nat.le_of_ble_eq_true rfl) dL_law_112 (fun r1 w1 hq1 => ?_)
  obtain ⟨er1, hx1⟩ := hq1
  have er1 := er1.symm
  subst er1
  refine ww_aload_n (pc := 115) hX dL_law_115 2 rfl ?_
  refine ww_aload_n (pc := 116) hX dL_law_116 0 rfl ?_
  refine ww_iload_n (pc := 117) hX dL_law_117 3 rfl ?_
  refine ww_iconst (pc := 118) (v := nI 1) hX dL_law_118 (by decide) ?_
  refine ww_iaddN (pc := 119) hX dL_law_119 ?_
  refine ww_sld (pc := 120) hX hsc hbl hbA (by omega) (by omega) dL_law_120 ?_
  refine ww_aload_n (pc := 121) hX dL_law_121 0 rfl ?_
  refine ww_iload_n (pc := 122) hX dL_law_122 3 rfl ?_
  refine ww_iconst (pc := 123) (v := nI 2) hX dL_law_123 (by decide) ?_
  refine ww_iaddN (pc := 124) hX dL_law_124 ?_
  refine ww_sld (pc := 125) hX hsc hbl hbA (by omega) (by omega) dL_law_125 ?_
  refine ww_aload_n (pc := 126) hX dL_law_126 0 rfl ?_
  refine ww_iload_n (pc := 127) hX dL_law_127 3 rfl ?_
  refine ww_iconst (pc := 128) (v := nI 3) hX dL_law_128 (by decide) ?_
  refine ww_iaddN (pc := 129) hX dL_law_129 ?_
  refine ww_sld (pc := 130) hX hsc hbl hbA (by omega) (by omega) dL_law_130 ?_
  refine ww_callIL (pc := 131) (n := 3) (rest := [_]) hX (mm_step _ _ _ hok) (lw_V q236 q237 q238 q22 q239) (by decide +kernel) rfl ⟨by decide, by decide⟩ 0 1 rfl rfl rfl (Nat.le_of_ble_eq_true rfl) dL_law_131 (fun r2 w2 hq2 => ?_)
  obtain ⟨er2, hm1⟩ := hq2
  have er2 := er2.symm
  subst er2
  refine ww_icmp_eq (pc := 134) (tgt := 442) hX dL_law_134 (by decide) (fun _ => K _ _ _ (z_stepR_pOk hok _ _ _) hx1 hm1) (fun c_ => absurd ?_ c_)
  rfl
set_option maxHeartbeats 4000000 in
set_option maxRecDepth 100000 in
/-- the law calls drop on both -/
theorem law_case_1 {X : Cx} {cB cI : ClassId} {adx adm : Nat → Nat} {b L : Nat} {xs : Nat → Int32} {i : Nat} {P : Pg} {wx wm : va_W} (hL : L ≤ 320) (hX : Fx X cL_law R_law 4 8 292 cB cI) (hsc : va_X b L xs (cx_s X) (cx_s X).heap) (hbl : b < (cx_s X).heap.size) (hbA : ¬ cx_A X b) (hi : i + 5 ≤ L) (hok : pOk P) (hx : xOK adx cB cI P wx) (hm : mOK adm cI P wm) (K : ∀ (P' : Pg) (wx' wm' : va_W), pOk P' → xOK adx cB cI P' wx' → mOK adm cI P' wm' → ww X (wx' ++ wm') [(0, .ref b), (1, .ref (adx 0)), (2, .ref (adm 0)), (3, .int (nI i))] 442 []) : ww X (wx ++ wm) [(0, .ref b), (1, .ref (adx 0)), (2, .ref (adm 0)), (3, .int (nI i))] 139 [] := by
  obtain ⟨wy, pl, ac, vr, sl, gd, lk, fx, fv, sx, sw, fo, cn, qa, qb, qc, qd, hfx, hsx, rfl⟩ := hx
  obtain ⟨tn, tu, st, va, pt, ho, rfl⟩ := hm
  refine ww_aload_n (pc := 139) hX dL_law_139 1 rfl ?_
  refine ww_aload_n (pc := 140) hX dL_law_140 0 rfl ?_
  refine ww_iload_n (pc := 141) hX dL_law_141 3 rfl ?_
  refine ww_iconst (pc := 142) (v := nI 1) hX dL_law_142 (by decide) ?_
  refine ww_iaddN (pc := 143) hX dL_law_143 ?_
  refine ww_sld (pc := 144) hX hsc hbl hbA (by omega) (by omega) dL_law_144 ?_
  refine ww_callIL (pc := 145) (n := 1) (rest := []) hX (xm_drop _ hok hfx hsx) (lw_V q107 q108 q109 q21 q110) (by decide +kernel) rfl ⟨by decide, by decide⟩ 0 0 rfl rfl rfl (Nat.le_of_ble_eq_true rfl) dL_law_145 (fun r1 w1 hq1 => ?_)
  obtain ⟨er1, hx1⟩ := hq1
  have er1 := er1.symm
  subst er1
  refine ww_aload_n (pc := 148) hX dL_law_148 2 rfl ?_
  refine ww_aload_n (pc := 149) hX dL_law_149 0 rfl ?_
  refine ww_iload_n (pc := 150) hX dL_law_150 3 rfl ?_
  refine ww_iconst (pc := 151) (v := nI 1) hX dL_law_151 (by decide) ?_
  refine ww_iaddN (pc := 152) hX dL_law_152 ?_
  refine ww_sld (pc := 153) hX hsc hbl hbA (by omega) (by omega) dL_law_153 ?_
  refine ww_callIL (pc := 154) (n := 1) (rest := [_]) hX (mm_drop _ hok) (lw_V q244 q245 q246 q22 q247) (by decide +kernel) rfl ⟨by decide, by decide⟩ 0 1 rfl rfl rfl (Nat.le_of_ble_eq_true rfl) dL_law_154 (fun r2 w2 hq2 => ?_)
  obtain ⟨er2, hm1⟩ := hq2
  have er2 := er2.symm
  subst er2
  refine ww_icmp_eq (pc := 157) (tgt := 442) hX dL_law_157 (by decide) (fun _ => K _ _ _ (z_dropR_pOk hok _) hx1 hm1) (fun c_ => absurd ?_ c_)
  rfl
set_option maxHeartbeats 4000000 in
set_option maxRecDepth 100000 in
/-- the law calls begin on both -/
theorem law_case_2 {X : Cx} {cB cI : ClassId} {adx adm : Nat → Nat} {b L : Nat} {xs : Nat → Int32} {i : Nat} {P : Pg} {wx wm : va_W} (hL : L ≤ 320) (hX : Fx X cL_law R_law 4 8 292 cB cI) (hsc : va_X b L xs (cx_s X) (cx_s X).heap) (hbl : b < (cx_s X).heap.size) (hbA : ¬ cx_A X b) (hi : i + 5 ≤ L) (hok : pOk P) (hx : xOK adx cB cI P wx) (hm : mOK adm cI P wm) (K : ∀ (P' : Pg) (wx' wm' : va_W), pOk P' → xOK adx cB cI P' wx' → mOK adm cI P' wm' → ww X (wx' ++ wm') [(0, .ref b), (1, .ref (adx 0)), (2, .ref (adm 0)), (3, .int (nI i))] 442 []) : ww X (wx ++ wm) [(0, .ref b), (1, .ref (adx 0)), (2, .ref (adm 0)), (3, .int (nI i))] 162 [] := by
  obtain ⟨wy, pl, ac, vr, sl, gd, lk, fx, fv, sx, sw, fo, cn, qa, qb, qc, qd, hfx, hsx, rfl⟩ := hx
  obtain ⟨tn, tu, st, va, pt, ho, rfl⟩ := hm
  refine ww_aload_n (pc := 162) hX dL_law_162 1 rfl ?_
  refine ww_aload_n (pc := 163) hX dL_law_163 0 rfl ?_
  refine ww_iload_n (pc := 164) hX dL_law_164 3 rfl ?_
  refine ww_iconst (pc := 165) (v := nI 1) hX dL_law_165 (by decide) ?_
  refine ww_iaddN (pc := 166) hX dL_law_166 ?_
  refine ww_sld (pc := 167) hX hsc hbl hbA (by omega) (by omega) dL_law_167 ?_
  refine ww_aload_n (pc := 168) hX dL_law_168 0 rfl ?_
  refine ww_iload_n (pc := 169) hX dL_law_169 3 rfl ?_
  refine ww_iconst (pc := 170) (v := nI 2) hX dL_law_170 (by decide) ?_
  refine ww_iaddN (pc := 171) hX dL_law_171 ?_
  refine ww_sld (pc := 172) hX hsc hbl hbA (by omega) (by omega) dL_law_172 ?_
  refine ww_aload_n (pc := 173) hX dL_law_173 0 rfl ?_
  refine ww_iload_n (pc := 174) hX dL_law_174 3 rfl ?_
  refine ww_iconst (pc := 175) (v := nI 3) hX dL_law_175 (by decide) ?_
  refine ww_iaddN (pc := 176) hX dL_law_176 ?_
  refine ww_sld (pc := 177) hX hsc hbl hbA (by omega) (by omega) dL_law_177 ?_
  refine ww_callIL (pc := 178) (n := 3) (rest := []) hX (xm_begin _ _ _ hok hfx hsx) (lw_V q111 q112 q113 q21 q114) (by decide +kernel) rfl ⟨by decide, by decide⟩ 0 0 rfl rfl rfl (Nat.le_of_ble_eq_true rfl) dL_law_178 (fun r1 w1 hq1 => ?_)
  obtain ⟨er1, hx1⟩ := hq1
  have er1 := er1.symm
  subst er1
  refine ww_aload_n (pc := 181) hX dL_law_181 2 rfl ?_
  refine ww_aload_n (pc := 182) hX dL_law_182 0 rfl ?_
  refine ww_iload_n (pc := 183) hX dL_law_183 3 rfl ?_
  refine ww_iconst (pc := 184) (v := nI 1) hX dL_law_184 (by decide) ?_
  refine ww_iaddN (pc := 185) hX dL_law_185 ?_
  refine ww_sld (pc := 186) hX hsc hbl hbA (by omega) (by omega) dL_law_186 ?_
  refine ww_aload_n (pc := 187) hX dL_law_187 0 rfl ?_
  refine ww_iload_n (pc := 188) hX dL_law_188 3 rfl ?_
  refine ww_iconst (pc := 189) (v := nI 2) hX dL_law_189 (by decide) ?_
  refine ww_iaddN (pc := 190) hX dL_law_190 ?_
  refine ww_sld (pc := 191) hX hsc hbl hbA (by omega) (by omega) dL_law_191 ?_
  refine ww_aload_n (pc := 192) hX dL_law_192 0 rfl ?_
  refine ww_iload_n (pc := 193) hX dL_law_193 3 rfl ?_
  refine ww_iconst (pc := 194) (v := nI 3) hX dL_law_194 (by decide) ?_
  refine ww_iaddN (pc := 195) hX dL_law_195 ?_
  refine ww_sld (pc := 196) hX hsc hbl hbA (by omega) (by omega) dL_law_196 ?_
  refine ww_callIL (pc := 197) (n := 3) (rest := [_]) hX (mm_begin _ _ _) (lw_V q248 q249 q250 q22 q251) (by decide +kernel) rfl ⟨by decide, by decide⟩ 0 1 rfl rfl rfl (Nat.le_of_ble_eq_true rfl) dL_law_197 (fun r2 w2 hq2 => ?_)
  obtain ⟨er2, hm1⟩ := hq2
  have er2 := er2.symm
  subst er2
  refine ww_icmp_eq (pc := 200) (tgt := 442) hX dL_law_200 (by decide) (fun _ => K _ _ _ (z_begR_pOk hok _ _ _) hx1 hm1) (fun c_ => absurd ?_ c_)
  rfl
set_option maxHeartbeats 4000000 in
set_option maxRecDepth 100000 in
/-- the law calls length on both -/
theorem law_case_3 {X : Cx} {cB cI : ClassId} {adx adm : Nat → Nat} {b L : Nat} {xs : Nat → Int32} {i : Nat} {P : Pg} {wx wm : va_W} (hL : L ≤ 320) (hX : Fx X cL_law R_law 4 8 292 cB cI) (hsc : va_X b L xs (cx_s X) (cx_s X).heap) (hbl : b < (cx_s X).heap.size) (hbA : ¬ cx_A X b) (hi : i + 5 ≤ L) (hok : pOk P) (hx : xOK adx cB cI P wx) (hm : mOK adm cI P wm) (K : ∀ (P' : Pg) (wx' wm' : va_W), pOk P' → xOK adx cB cI P' wx' → mOK adm cI P' wm' → ww X (wx' ++ wm') [(0, .ref b), (1, .ref (adx 0)), (2, .ref (adm 0)), (3, .int (nI i))] 442 []) : ww X (wx ++ wm) [(0, .ref b), (1, .ref (adx 0)), (2, .ref (adm 0)), (3, .int (nI i))] 205 [] := by
  obtain ⟨wy, pl, ac, vr, sl, gd, lk, fx, fv, sx, sw, fo, cn, qa, qb, qc, qd, hfx, hsx, rfl⟩ := hx
  obtain ⟨tn, tu, st, va, pt, ho, rfl⟩ := hm
  refine ww_aload_n (pc := 205) hX dL_law_205 1 rfl ?_
  refine ww_aload_n (pc := 206) hX dL_law_206 0 rfl ?_
  refine ww_iload_n (pc := 207) hX dL_law_207 3 rfl ?_
  refine ww_iconst (pc := 208) (v := nI 1) hX dL_law_208 (by decide) ?_
  refine ww_iaddN (pc := 209) hX dL_law_209 ?_
  refine ww_sld (pc := 210) hX hsc hbl hbA (by omega) (by omega) dL_law_210 ?_
  refine ww_callIL (pc := 211) (n := 1) (rest := []) hX (xm_length _ hok hfx hsx) (lw_V q115 q116 q117 q21 q118) (by decide +kernel) rfl ⟨by decide, by decide⟩ 0 0 rfl rfl rfl (Nat.le_of_ble_eq_true rfl) dL_law_211 (fun r1 w1 hq1 => ?_)
  obtain ⟨er1, hx1⟩ := hq1
  have er1 := er1.symm
  subst er1
  refine ww_aload_n (pc := 214) hX dL_law_214 2 rfl ?_
  refine ww_aload_n (pc := 215) hX dL_law_215 0 rfl ?_
  refine ww_iload_n (pc := 216) hX dL_law_216 3 rfl ?_
  refine ww_iconst (pc := 217) (v := nI 1) hX dL_law_217 (by decide) ?_
  refine ww_iaddN (pc := 218) hX dL_law_218 ?_
  refine ww_sld (pc := 219) hX hsc hbl hbA (by omega) (by omega) dL_law_219 ?_
  refine ww_callIL (pc := 220) (n := 1) (rest := [_]) hX (mm_length _) (lw_V q252 q253 q254 q22 q255) (by decide +kernel) rfl ⟨by decide, by decide⟩ 0 1 rfl rfl rfl (Nat.le_of_ble_eq_true rfl) dL_law_220 (fun r2 w2 hq2 => ?_)
  obtain ⟨er2, hm1⟩ := hq2
  have er2 := er2.symm
  subst er2
  refine ww_icmp_eq (pc := 223) (tgt := 442) hX dL_law_223 (by decide) (fun _ => K _ _ _ (hok) hx1 hm1) (fun c_ => absurd ?_ c_)
  rfl
set_option maxHeartbeats 4000000 in
set_option maxRecDepth 100000 in
/-- the law calls schedules on both -/
theorem law_case_4 {X : Cx} {cB cI : ClassId} {adx adm : Nat → Nat} {b L : Nat} {xs : Nat → Int32} {i : Nat} {P : Pg} {wx wm : va_W} (hL : L ≤ 320) (hX : Fx X cL_law R_law 4 8 292 cB cI) (hsc : va_X b L xs (cx_s X) (cx_s X).heap) (hbl : b < (cx_s X).heap.size) (hbA : ¬ cx_A X b) (hi : i + 5 ≤ L) (hok : pOk P) (hx : xOK adx cB cI P wx) (hm : mOK adm cI P wm) (K : ∀ (P' : Pg) (wx' wm' : va_W), pOk P' → xOK adx cB cI P' wx' → mOK adm cI P' wm' → ww X (wx' ++ wm') [(0, .ref b), (1, .ref (adx 0)), (2, .ref (adm 0)), (3, .int (nI i))] 442 []) : ww X (wx ++ wm) [(0, .ref b), (1, .ref (adx 0)), (2, .ref (adm 0)), (3, .int (nI i))] 228 [] := by
  obtain ⟨wy, pl, ac, vr, sl, gd, lk, fx, fv, sx, sw, fo, cn, qa, qb, qc, qd, hfx, hsx, rfl⟩ := hx
  obtain ⟨tn, tu, st, va, pt, ho, rfl⟩ := hm
  refine ww_aload_n (pc := 228) hX dL_law_228 1 rfl ?_
  refine ww_callIL (pc := 229) (n := 0) (rest := []) hX (xm_schedules hok (z_wy_lt hok)) (lw_V q119 q120 q121 q21 q122) (by decide +kernel) rfl ⟨by decide, by decide⟩ 0 0 rfl rfl rfl (Nat.le_of_ble_eq_true rfl) dL_law_229 (fun r1 w1 hq1 => ?_)
  obtain ⟨er1, wy1, e1⟩ := hq1
  have er1 := er1.symm
  subst er1
  have hx1 : xOK adx cB cI P w1 := ⟨_, _, _, _, _, _, _, _, _, _, _, _, _, _, _, _, _, hfx, hsx, e1⟩
  refine ww_aload_n (pc := 232) hX dL_law_232 2 rfl ?_
  refine ww_callIL (pc := 233) (n := 0) (rest := [_]) hX (mm_schedules hok) (lw_V q256 q257 q258 q22 q259) (by decide +kernel) rfl ⟨by decide, by decide⟩ 0 1 rfl rfl rfl (Nat.le_of_ble_eq_true rfl) dL_law_233 (fun r2 w2 hq2 => ?_)
  obtain ⟨er2, hm1⟩ := hq2
  have er2 := er2.symm
  subst er2
  refine ww_icmp_eq (pc := 236) (tgt := 442) hX dL_law_236 (by decide) (fun _ => K _ _ _ (hok) hx1 hm1) (fun c_ => absurd ?_ c_)
  rw [z_eq_sched hok]
set_option maxHeartbeats 4000000 in
set_option maxRecDepth 100000 in
/-- the law calls classes on both -/
theorem law_case_5 {X : Cx} {cB cI : ClassId} {adx adm : Nat → Nat} {b L : Nat} {xs : Nat → Int32} {i : Nat} {P : Pg} {wx wm : va_W} (hL : L ≤ 320) (hX : Fx X cL_law R_law 4 8 292 cB cI) (hsc : va_X b L xs (cx_s X) (cx_s X).heap) (hbl : b < (cx_s X).heap.size) (hbA : ¬ cx_A X b) (hi : i + 5 ≤ L) (hok : pOk P) (hx : xOK adx cB cI P wx) (hm : mOK adm cI P wm) (K : ∀ (P' : Pg) (wx' wm' : va_W), pOk P' → xOK adx cB cI P' wx' → mOK adm cI P' wm' → ww X (wx' ++ wm') [(0, .ref b), (1, .ref (adx 0)), (2, .ref (adm 0)), (3, .int (nI i))] 442 []) : ww X (wx ++ wm) [(0, .ref b), (1, .ref (adx 0)), (2, .ref (adm 0)), (3, .int (nI i))] 241 [] := by
  obtain ⟨wy, pl, ac, vr, sl, gd, lk, fx, fv, sx, sw, fo, cn, qa, qb, qc, qd, hfx, hsx, rfl⟩ := hx
  obtain ⟨tn, tu, st, va, pt, ho, rfl⟩ := hm
  refine ww_aload_n (pc := 241) hX dL_law_241 1 rfl ?_
  refine ww_callIL (pc := 242) (n := 0) (rest := []) hX (xm_classes hok hfx hsx) (lw_V q138 q139 q140 q21 q141) (by decide +kernel) rfl ⟨by decide, by decide⟩ 0 0 rfl rfl rfl (Nat.le_of_ble_eq_true rfl) dL_law_242 (fun r1 w1 hq1 => ?_)
  obtain ⟨er1, hx1⟩ := hq1
  have er1 := er1.symm
  subst er1
  refine ww_aload_n (pc := 245) hX dL_law_245 2 rfl ?_
  refine ww_callIL (pc := 246) (n := 0) (rest := [_]) hX (mm_classes hok) (lw_V q285 q286 q287 q22 q288) (by decide +kernel) rfl ⟨by decide, by decide⟩ 0 1 rfl rfl rfl (Nat.le_of_ble_eq_true rfl) dL_law_246 (fun r2 w2 hq2 => ?_)
  obtain ⟨er2, hm1⟩ := hq2
  have er2 := er2.symm
  subst er2
  refine ww_icmp_eq (pc := 249) (tgt := 442) hX dL_law_249 (by decide) (fun _ => K _ _ _ (hok) hx1 hm1) (fun c_ => absurd ?_ c_)
  rw [z_eq_cls hok]
set_option maxHeartbeats 4000000 in
set_option maxRecDepth 100000 in
/-- the law calls canStick on both -/
theorem law_case_6 {X : Cx} {cB cI : ClassId} {adx adm : Nat → Nat} {b L : Nat} {xs : Nat → Int32} {i : Nat} {P : Pg} {wx wm : va_W} (hL : L ≤ 320) (hX : Fx X cL_law R_law 4 8 292 cB cI) (hsc : va_X b L xs (cx_s X) (cx_s X).heap) (hbl : b < (cx_s X).heap.size) (hbA : ¬ cx_A X b) (hi : i + 5 ≤ L) (hok : pOk P) (hx : xOK adx cB cI P wx) (hm : mOK adm cI P wm) (K : ∀ (P' : Pg) (wx' wm' : va_W), pOk P' → xOK adx cB cI P' wx' → mOK adm cI P' wm' → ww X (wx' ++ wm') [(0, .ref b), (1, .ref (adx 0)), (2, .ref (adm 0)), (3, .int (nI i))] 442 []) : ww X (wx ++ wm) [(0, .ref b), (1, .ref (adx 0)), (2, .ref (adm 0)), (3, .int (nI i))] 254 [] := by
  obtain ⟨wy, pl, ac, vr, sl, gd, lk, fx, fv, sx, sw, fo, cn, qa, qb, qc, qd, hfx, hsx, rfl⟩ := hx
  obtain ⟨tn, tu, st, va, pt, ho, rfl⟩ := hm
  refine ww_aload_n (pc := 254) hX dL_law_254 1 rfl ?_
  refine ww_callIL (pc := 255) (n := 0) (rest := []) hX (xm_canStick hok (z_wy_lt hok) (z_sum_lt hok)) (lw_V q174 q175 q176 q21 q177) (by decide +kernel) rfl ⟨by decide, by decide⟩ 0 0 rfl rfl rfl (Nat.le_of_ble_eq_true rfl) dL_law_255 (fun r1 w1 hq1 => ?_)
  obtain ⟨er1, wy1, e1⟩ := hq1
  have er1 := er1.symm
  subst er1
  have hx1 : xOK adx cB cI P w1 := ⟨_, _, _, _, _, _, _, _, _, _, _, _, _, _, _, _, _, hfx, hsx, e1⟩
  refine ww_aload_n (pc := 258) hX dL_law_258 2 rfl ?_
  refine ww_callIL (pc := 259) (n := 0) (rest := [_]) hX (mm_canStick hok) (lw_V q297 q298 q299 q22 q300) (by decide +kernel) rfl ⟨by decide, by decide⟩ 0 1 rfl rfl rfl (Nat.le_of_ble_eq_true rfl) dL_law_259 (fun r2 w2 hq2 => ?_)
  obtain ⟨er2, hm1⟩ := hq2
  have er2 := er2.symm
  subst er2
  refine ww_icmp_eq (pc := 262) (tgt := 442) hX dL_law_262 (by decide) (fun _ => K _ _ _ (hok) hx1 hm1) (fun c_ => absurd ?_ c_)
  rw [z_eq_stick hok]
set_option maxHeartbeats 4000000 in
set_option maxRecDepth 100000 in
/-- the law calls canEnd on both -/
theorem law_case_7 {X : Cx} {cB cI : ClassId} {adx adm : Nat → Nat} {b L : Nat} {xs : Nat → Int32} {i : Nat} {P : Pg} {wx wm : va_W} (hL : L ≤ 320) (hX : Fx X cL_law R_law 4 8 292 cB cI) (hsc : va_X b L xs (cx_s X) (cx_s X).heap) (hbl : b < (cx_s X).heap.size) (hbA : ¬ cx_A X b) (hi : i + 5 ≤ L) (hok : pOk P) (hx : xOK adx cB cI P wx) (hm : mOK adm cI P wm) (K : ∀ (P' : Pg) (wx' wm' : va_W), pOk P' → xOK adx cB cI P' wx' → mOK adm cI P' wm' → ww X (wx' ++ wm') [(0, .ref b), (1, .ref (adx 0)), (2, .ref (adm 0)), (3, .int (nI i))] 442 []) : ww X (wx ++ wm) [(0, .ref b), (1, .ref (adx 0)), (2, .ref (adm 0)), (3, .int (nI i))] 267 [] := by
  obtain ⟨wy, pl, ac, vr, sl, gd, lk, fx, fv, sx, sw, fo, cn, qa, qb, qc, qd, hfx, hsx, rfl⟩ := hx
  obtain ⟨tn, tu, st, va, pt, ho, rfl⟩ := hm
  refine ww_aload_n (pc := 267) hX dL_law_267 1 rfl ?_
  refine ww_aload_n (pc := 268) hX dL_law_268 0 rfl ?_
  refine ww_iload_n (pc := 269) hX dL_law_269 3 rfl ?_
  refine ww_iconst (pc := 270) (v := nI 1) hX dL_law_270 (by decide) ?_
  refine ww_iaddN (pc := 271) hX dL_law_271 ?_
  refine ww_sld (pc := 272) hX hsc hbl hbA (by omega) (by omega) dL_law_272 ?_
  refine ww_aload_n (pc := 273) hX dL_law_273 0 rfl ?_
  refine ww_iload_n (pc := 274) hX dL_law_274 3 rfl ?_
  refine ww_iconst (pc := 275) (v := nI 2) hX dL_law_275 (by decide) ?_
  refine ww_iaddN (pc := 276) hX dL_law_276 ?_
  refine ww_sld (pc := 277) hX hsc hbl hbA (by omega) (by omega) dL_law_277 ?_
  refine ww_callIL (pc := 278) (n := 2) (rest := []) hX (xm_canEnd _ _ hok hfx hsx) (lw_V q178 q179 q180 q21 q181) (by decide +kernel) rfl ⟨by decide, by decide⟩ 0 0 rfl rfl rfl (Nat.le_of_ble_eq_true rfl) dL_law_278 (fun r1 w1 hq1 => ?_)
  obtain ⟨er1, hx1⟩ := hq1
  have er1 := er1.symm
  subst er1
  refine ww_aload_n (pc := 281) hX dL_law_281 2 rfl ?_
  refine ww_aload_n (pc := 282) hX dL_law_282 0 rfl ?_
  refine ww_iload_n (pc := 283) hX dL_law_283 3 rfl ?_
  refine ww_iconst (pc := 284) (v := nI 1) hX dL_law_284 (by decide) ?_
  refine ww_iaddN (pc := 285) hX dL_law_285 ?_
  refine ww_sld (pc := 286) hX hsc hbl hbA (by omega) (by omega) dL_law_286 ?_
  refine ww_aload_n (pc := 287) hX dL_law_287 0 rfl ?_
  refine ww_iload_n (pc := 288) hX dL_law_288 3 rfl ?_
  refine ww_iconst (pc := 289) (v := nI 2) hX dL_law_289 (by decide) ?_
  refine ww_iaddN (pc := 290) hX dL_law_290 ?_
  refine ww_sld (pc := 291) hX hsc hbl hbA (by omega) (by omega) dL_law_291 ?_
  refine ww_callIL (pc := 292) (n := 2) (rest := [_]) hX (mm_canEnd _ _ hok) (lw_V q301 q302 q303 q22 q304) (by decide +kernel) rfl ⟨by decide, by decide⟩ 0 1 rfl rfl rfl (Nat.le_of_ble_eq_true rfl) dL_law_292 (fun r2 w2 hq2 => ?_)
  obtain ⟨er2, hm1⟩ := hq2
  have er2 := er2.symm
  subst er2
  refine ww_icmp_eq (pc := 295) (tgt := 442) hX dL_law_295 (by decide) (fun _ => K _ _ _ (hok) hx1 hm1) (fun c_ => absurd ?_ c_)
  rw [z_eq_end hok]
set_option maxHeartbeats 4000000 in
set_option maxRecDepth 100000 in
/-- the law calls canEndBoth on both -/
theorem law_case_8 {X : Cx} {cB cI : ClassId} {adx adm : Nat → Nat} {b L : Nat} {xs : Nat → Int32} {i : Nat} {P : Pg} {wx wm : va_W} (hL : L ≤ 320) (hX : Fx X cL_law R_law 4 8 292 cB cI) (hsc : va_X b L xs (cx_s X) (cx_s X).heap) (hbl : b < (cx_s X).heap.size) (hbA : ¬ cx_A X b) (hi : i + 5 ≤ L) (hok : pOk P) (hx : xOK adx cB cI P wx) (hm : mOK adm cI P wm) (K : ∀ (P' : Pg) (wx' wm' : va_W), pOk P' → xOK adx cB cI P' wx' → mOK adm cI P' wm' → ww X (wx' ++ wm') [(0, .ref b), (1, .ref (adx 0)), (2, .ref (adm 0)), (3, .int (nI i))] 442 []) : ww X (wx ++ wm) [(0, .ref b), (1, .ref (adx 0)), (2, .ref (adm 0)), (3, .int (nI i))] 300 [] := by
  obtain ⟨wy, pl, ac, vr, sl, gd, lk, fx, fv, sx, sw, fo, cn, qa, qb, qc, qd, hfx, hsx, rfl⟩ := hx
  obtain ⟨tn, tu, st, va, pt, ho, rfl⟩ := hm
  refine ww_aload_n (pc := 300) hX dL_law_300 1 rfl ?_
  refine ww_aload_n (pc := 301) hX dL_law_301 0 rfl ?_
  refine ww_iload_n (pc := 302) hX dL_law_302 3 rfl ?_
  refine ww_iconst (pc := 303) (v := nI 1) hX dL_law_303 (by decide) ?_
  refine ww_iaddN (pc := 304) hX dL_law_304 ?_
  refine ww_sld (pc := 305) hX hsc hbl hbA (by omega) (by omega) dL_law_305 ?_
  refine ww_aload_n (pc := 306) hX dL_law_306 0 rfl ?_
  refine ww_iload_n (pc := 307) hX dL_law_307 3 rfl ?_
  refine ww_iconst (pc := 308) (v := nI 2) hX dL_law_308 (by decide) ?_
  refine ww_iaddN (pc := 309) hX dL_law_309 ?_
  refine ww_sld (pc := 310) hX hsc hbl hbA (by omega) (by omega) dL_law_310 ?_
  refine ww_aload_n (pc := 311) hX dL_law_311 0 rfl ?_
  refine ww_iload_n (pc := 312) hX dL_law_312 3 rfl ?_
  refine ww_iconst (pc := 313) (v := nI 3) hX dL_law_313 (by decide) ?_
  refine ww_iaddN (pc := 314) hX dL_law_314 ?_
  refine ww_sld (pc := 315) hX hsc hbl hbA (by omega) (by omega) dL_law_315 ?_
  refine ww_aload_n (pc := 316) hX dL_law_316 0 rfl ?_
  refine ww_iload_n (pc := 317) hX dL_law_317 3 rfl ?_
  refine ww_iconst (pc := 318) (v := nI 4) hX dL_law_318 (by decide) ?_
  refine ww_iaddN (pc := 319) hX dL_law_319 ?_
  refine ww_sld (pc := 320) hX hsc hbl hbA (by omega) (by omega) dL_law_320 ?_
  refine ww_callIL (pc := 321) (n := 4) (rest := []) hX (xm_canEndBoth _ _ _ _ hok hfx hsx) (lw_V q186 q183 q184 q21 q185) (by decide +kernel) rfl ⟨by decide, by decide⟩ 0 0 rfl rfl rfl (Nat.le_of_ble_eq_true rfl) dL_law_321 (fun r1 w1 hq1 => ?_)
  obtain ⟨er1, hx1⟩ := hq1
  have er1 := er1.symm
  subst er1
  refine ww_aload_n (pc := 324) hX dL_law_324 2 rfl ?_
  refine ww_aload_n (pc := 325) hX dL_law_325 0 rfl ?_
  refine ww_iload_n (pc := 326) hX dL_law_326 3 rfl ?_
  refine ww_iconst (pc := 327) (v := nI 1) hX dL_law_327 (by decide) ?_
  refine ww_iaddN (pc := 328) hX dL_law_328 ?_
  refine ww_sld (pc := 329) hX hsc hbl hbA (by omega) (by omega) dL_law_329 ?_
  refine ww_aload_n (pc := 330) hX dL_law_330 0 rfl ?_
  refine ww_iload_n (pc := 331) hX dL_law_331 3 rfl ?_
  refine ww_iconst (pc := 332) (v := nI 2) hX dL_law_332 (by decide) ?_
  refine ww_iaddN (pc := 333) hX dL_law_333 ?_
  refine ww_sld (pc := 334) hX hsc hbl hbA (by omega) (by omega) dL_law_334 ?_
  refine ww_aload_n (pc := 335) hX dL_law_335 0 rfl ?_
  refine ww_iload_n (pc := 336) hX dL_law_336 3 rfl ?_
  refine ww_iconst (pc := 337) (v := nI 3) hX dL_law_337 (by decide) ?_
  refine ww_iaddN (pc := 338) hX dL_law_338 ?_
  refine ww_sld (pc := 339) hX hsc hbl hbA (by omega) (by omega) dL_law_339 ?_
  refine ww_aload_n (pc := 340) hX dL_law_340 0 rfl ?_
  refine ww_iload_n (pc := 341) hX dL_law_341 3 rfl ?_
  refine ww_iconst (pc := 342) (v := nI 4) hX dL_law_342 (by decide) ?_
  refine ww_iaddN (pc := 343) hX dL_law_343 ?_
  refine ww_sld (pc := 344) hX hsc hbl hbA (by omega) (by omega) dL_law_344 ?_
  refine ww_callIL (pc := 345) (n := 4) (rest := [_]) hX (mm_canEndBoth _ _ _ _ hok) (lw_V q309 q306 q307 q22 q308) (by decide +kernel) rfl ⟨by decide, by decide⟩ 0 1 rfl rfl rfl (Nat.le_of_ble_eq_true rfl) dL_law_345 (fun r2 w2 hq2 => ?_)
  obtain ⟨er2, hm1⟩ := hq2
  have er2 := er2.symm
  subst er2
  refine ww_icmp_eq (pc := 348) (tgt := 442) hX dL_law_348 (by decide) (fun _ => K _ _ _ (hok) hx1 hm1) (fun c_ => absurd ?_ c_)
  rw [z_eq_end hok]
set_option maxHeartbeats 4000000 in
set_option maxRecDepth 100000 in
/-- the law calls extreme on both -/
theorem law_case_9 {X : Cx} {cB cI : ClassId} {adx adm : Nat → Nat} {b L : Nat} {xs : Nat → Int32} {i : Nat} {P : Pg} {wx wm : va_W} (hL : L ≤ 320) (hX : Fx X cL_law R_law 4 8 292 cB cI) (hsc : va_X b L xs (cx_s X) (cx_s X).heap) (hbl : b < (cx_s X).heap.size) (hbA : ¬ cx_A X b) (hi : i + 5 ≤ L) (hok : pOk P) (hx : xOK adx cB cI P wx) (hm : mOK adm cI P wm) (K : ∀ (P' : Pg) (wx' wm' : va_W), pOk P' → xOK adx cB cI P' wx' → mOK adm cI P' wm' → ww X (wx' ++ wm') [(0, .ref b), (1, .ref (adx 0)), (2, .ref (adm 0)), (3, .int (nI i))] 442 []) : ww X (wx ++ wm) [(0, .ref b), (1, .ref (adx 0)), (2, .ref (adm 0)), (3, .int (nI i))] 353 [] := by
  obtain ⟨wy, pl, ac, vr, sl, gd, lk, fx, fv, sx, sw, fo, cn, qa, qb, qc, qd, hfx, hsx, rfl⟩ := hx
  obtain ⟨tn, tu, st, va, pt, ho, rfl⟩ := hm
  refine ww_aload_n (pc := 353) hX dL_law_353 1 rfl ?_
  refine ww_aload_n (pc := 354) hX dL_law_354 0 rfl ?_
  refine ww_iload_n (pc := 355) hX dL_law_355 3 rfl ?_
  refine ww_iconst (pc := 356) (v := nI 1) hX dL_law_356 (by decide) ?_
  refine ww_iaddN (pc := 357) hX dL_law_357 ?_
  refine ww_sld (pc := 358) hX hsc hbl hbA (by omega) (by omega) dL_law_358 ?_
  refine ww_aload_n (pc := 359) hX dL_law_359 0 rfl ?_
  refine ww_iload_n (pc := 360) hX dL_law_360 3 rfl ?_
  refine ww_iconst (pc := 361) (v := nI 2) hX dL_law_361 (by decide) ?_
  refine ww_iaddN (pc := 362) hX dL_law_362 ?_
  refine ww_sld (pc := 363) hX hsc hbl hbA (by omega) (by omega) dL_law_363 ?_
  refine ww_callIL (pc := 364) (n := 2) (rest := []) hX (xm_extreme _ _ hok hfx hsx) (lw_V q187 q188 q189 q21 q190) (by decide +kernel) rfl ⟨by decide, by decide⟩ 0 0 rfl rfl rfl (Nat.le_of_ble_eq_true rfl) dL_law_364 (fun r1 w1 hq1 => ?_)
  obtain ⟨er1, hx1⟩ := hq1
  have er1 := er1.symm
  subst er1
  refine ww_aload_n (pc := 367) hX dL_law_367 2 rfl ?_
  refine ww_aload_n (pc := 368) hX dL_law_368 0 rfl ?_
  refine ww_iload_n (pc := 369) hX dL_law_369 3 rfl ?_
  refine ww_iconst (pc := 370) (v := nI 1) hX dL_law_370 (by decide) ?_
  refine ww_iaddN (pc := 371) hX dL_law_371 ?_
  refine ww_sld (pc := 372) hX hsc hbl hbA (by omega) (by omega) dL_law_372 ?_
  refine ww_aload_n (pc := 373) hX dL_law_373 0 rfl ?_
  refine ww_iload_n (pc := 374) hX dL_law_374 3 rfl ?_
  refine ww_iconst (pc := 375) (v := nI 2) hX dL_law_375 (by decide) ?_
  refine ww_iaddN (pc := 376) hX dL_law_376 ?_
  refine ww_sld (pc := 377) hX hsc hbl hbA (by omega) (by omega) dL_law_377 ?_
  refine ww_callIL (pc := 378) (n := 2) (rest := [_]) hX (mm_extreme _ _ hok) (lw_V q310 q311 q312 q22 q313) (by decide +kernel) rfl ⟨by decide, by decide⟩ 0 1 rfl rfl rfl (Nat.le_of_ble_eq_true rfl) dL_law_378 (fun r2 w2 hq2 => ?_)
  obtain ⟨er2, hm1⟩ := hq2
  have er2 := er2.symm
  subst er2
  refine ww_icmp_eq (pc := 381) (tgt := 442) hX dL_law_381 (by decide) (fun _ => K _ _ _ (hok) hx1 hm1) (fun c_ => absurd ?_ c_)
  split
  · next h => rw [z_eq_lv hok (z_ix_lt (z_w01_ix h)), z_eq_mv hok (z_ix_lt (z_w01_ix h))]
  · rfl
set_option maxHeartbeats 4000000 in
set_option maxRecDepth 100000 in
/-- the law calls accumulator on both -/
theorem law_case_10 {X : Cx} {cB cI : ClassId} {adx adm : Nat → Nat} {b L : Nat} {xs : Nat → Int32} {i : Nat} {P : Pg} {wx wm : va_W} (hL : L ≤ 320) (hX : Fx X cL_law R_law 4 8 292 cB cI) (hsc : va_X b L xs (cx_s X) (cx_s X).heap) (hbl : b < (cx_s X).heap.size) (hbA : ¬ cx_A X b) (hi : i + 5 ≤ L) (hok : pOk P) (hx : xOK adx cB cI P wx) (hm : mOK adm cI P wm) (K : ∀ (P' : Pg) (wx' wm' : va_W), pOk P' → xOK adx cB cI P' wx' → mOK adm cI P' wm' → ww X (wx' ++ wm') [(0, .ref b), (1, .ref (adx 0)), (2, .ref (adm 0)), (3, .int (nI i))] 442 []) : ww X (wx ++ wm) [(0, .ref b), (1, .ref (adx 0)), (2, .ref (adm 0)), (3, .int (nI i))] 386 [] := by
  obtain ⟨wy, pl, ac, vr, sl, gd, lk, fx, fv, sx, sw, fo, cn, qa, qb, qc, qd, hfx, hsx, rfl⟩ := hx
  obtain ⟨tn, tu, st, va, pt, ho, rfl⟩ := hm
  refine ww_aload_n (pc := 386) hX dL_law_386 1 rfl ?_
  refine ww_aload_n (pc := 387) hX dL_law_387 0 rfl ?_
  refine ww_iload_n (pc := 388) hX dL_law_388 3 rfl ?_
  refine ww_iconst (pc := 389) (v := nI 1) hX dL_law_389 (by decide) ?_
  refine ww_iaddN (pc := 390) hX dL_law_390 ?_
  refine ww_sld (pc := 391) hX hsc hbl hbA (by omega) (by omega) dL_law_391 ?_
  refine ww_aload_n (pc := 392) hX dL_law_392 0 rfl ?_
  refine ww_iload_n (pc := 393) hX dL_law_393 3 rfl ?_
  refine ww_iconst (pc := 394) (v := nI 2) hX dL_law_394 (by decide) ?_
  refine ww_iaddN (pc := 395) hX dL_law_395 ?_
  refine ww_sld (pc := 396) hX hsc hbl hbA (by omega) (by omega) dL_law_396 ?_
  refine ww_callIL (pc := 397) (n := 2) (rest := []) hX (xm_accumulator _ _ hok hfx hsx) (lw_V q191 q192 q193 q21 q194) (by decide +kernel) rfl ⟨by decide, by decide⟩ 0 0 rfl rfl rfl (Nat.le_of_ble_eq_true rfl) dL_law_397 (fun r1 w1 hq1 => ?_)
  obtain ⟨er1, hx1⟩ := hq1
  have er1 := er1.symm
  subst er1
  refine ww_aload_n (pc := 400) hX dL_law_400 2 rfl ?_
  refine ww_aload_n (pc := 401) hX dL_law_401 0 rfl ?_
  refine ww_iload_n (pc := 402) hX dL_law_402 3 rfl ?_
  refine ww_iconst (pc := 403) (v := nI 1) hX dL_law_403 (by decide) ?_
  refine ww_iaddN (pc := 404) hX dL_law_404 ?_
  refine ww_sld (pc := 405) hX hsc hbl hbA (by omega) (by omega) dL_law_405 ?_
  refine ww_aload_n (pc := 406) hX dL_law_406 0 rfl ?_
  refine ww_iload_n (pc := 407) hX dL_law_407 3 rfl ?_
  refine ww_iconst (pc := 408) (v := nI 2) hX dL_law_408 (by decide) ?_
  refine ww_iaddN (pc := 409) hX dL_law_409 ?_
  refine ww_sld (pc := 410) hX hsc hbl hbA (by omega) (by omega) dL_law_410 ?_
  refine ww_callIL (pc := 411) (n := 2) (rest := [_]) hX (mm_accumulator _ _ hok) (lw_V q318 q319 q320 q22 q321) (by decide +kernel) rfl ⟨by decide, by decide⟩ 0 1 rfl rfl rfl (Nat.le_of_ble_eq_true rfl) dL_law_411 (fun r2 w2 hq2 => ?_)
  obtain ⟨er2, hm1⟩ := hq2
  have er2 := er2.symm
  subst er2
  refine ww_icmp_eq (pc := 414) (tgt := 442) hX dL_law_414 (by decide) (fun _ => K _ _ _ (hok) hx1 hm1) (fun c_ => absurd ?_ c_)
  split
  · next h => rw [z_eq_la hok (z_ix_lt (z_w01_ix h)), z_eq_ma hok (z_ix_lt (z_w01_ix h))]
  · rfl
set_option maxHeartbeats 4000000 in
set_option maxRecDepth 100000 in
/-- the law calls races on both -/
theorem law_case_11 {X : Cx} {cB cI : ClassId} {adx adm : Nat → Nat} {b L : Nat} {xs : Nat → Int32} {i : Nat} {P : Pg} {wx wm : va_W} (hL : L ≤ 320) (hX : Fx X cL_law R_law 4 8 292 cB cI) (hsc : va_X b L xs (cx_s X) (cx_s X).heap) (hbl : b < (cx_s X).heap.size) (hbA : ¬ cx_A X b) (hi : i + 5 ≤ L) (hok : pOk P) (hx : xOK adx cB cI P wx) (hm : mOK adm cI P wm) (K : ∀ (P' : Pg) (wx' wm' : va_W), pOk P' → xOK adx cB cI P' wx' → mOK adm cI P' wm' → ww X (wx' ++ wm') [(0, .ref b), (1, .ref (adx 0)), (2, .ref (adm 0)), (3, .int (nI i))] 442 []) : ww X (wx ++ wm) [(0, .ref b), (1, .ref (adx 0)), (2, .ref (adm 0)), (3, .int (nI i))] 419 [] := by
  obtain ⟨wy, pl, ac, vr, sl, gd, lk, fx, fv, sx, sw, fo, cn, qa, qb, qc, qd, hfx, hsx, rfl⟩ := hx
  obtain ⟨tn, tu, st, va, pt, ho, rfl⟩ := hm
  refine ww_aload_n (pc := 419) hX dL_law_419 1 rfl ?_
  refine ww_aload_n (pc := 420) hX dL_law_420 0 rfl ?_
  refine ww_iload_n (pc := 421) hX dL_law_421 3 rfl ?_
  refine ww_iconst (pc := 422) (v := nI 1) hX dL_law_422 (by decide) ?_
  refine ww_iaddN (pc := 423) hX dL_law_423 ?_
  refine ww_sld (pc := 424) hX hsc hbl hbA (by omega) (by omega) dL_law_424 ?_
  refine ww_callIL (pc := 425) (n := 1) (rest := []) hX (xm_races _ hok hfx hsx) (lw_V q195 q196 q197 q21 q198) (by decide +kernel) rfl ⟨by decide, by decide⟩ 0 0 rfl rfl rfl (Nat.le_of_ble_eq_true rfl) dL_law_425 (fun r1 w1 hq1 => ?_)
  obtain ⟨er1, hx1⟩ := hq1
  have er1 := er1.symm
  subst er1
  refine ww_aload_n (pc := 428) hX dL_law_428 2 rfl ?_
  refine ww_aload_n (pc := 429) hX dL_law_429 0 rfl ?_
  refine ww_iload_n (pc := 430) hX dL_law_430 3 rfl ?_
  refine ww_iconst (pc := 431) (v := nI 1) hX dL_law_431 (by decide) ?_
  refine ww_iaddN (pc := 432) hX dL_law_432 ?_
  refine ww_sld (pc := 433) hX hsc hbl hbA (by omega) (by omega) dL_law_433 ?_
  refine ww_callIL (pc := 434) (n := 1) (rest := [_]) hX (mm_races _ hok) (lw_V q322 q323 q324 q22 q325) (by decide +kernel) rfl ⟨by decide, by decide⟩ 0 1 rfl rfl rfl (Nat.le_of_ble_eq_true rfl) dL_law_434 (fun r2 w2 hq2 => ?_)
  obtain ⟨er2, hm1⟩ := hq2
  have er2 := er2.symm
  subst er2
  refine ww_icmp_eq (pc := 437) (tgt := 442) hX dL_law_437 (by decide) (fun _ => K _ _ _ (hok) hx1 hm1) (fun c_ => absurd ?_ c_)
  cases h : z_ix (xs (i + 1))
  · rfl
  · rw [z_eq_lv hok (z_ix_lt h), z_eq_mv hok (z_ix_lt h)]
set_option maxHeartbeats 4000000 in
set_option maxRecDepth 100000 in
/-- THE LAW'S LOOP: at its head both objects hold the same program -/
theorem law_loop {X : Cx} {cB cI : ClassId} {adx adm : Nat → Nat} {b L : Nat} {xs : Nat → Int32} (hL : L ≤ 320) (hX : Fx X cL_law R_law 4 8 292 cB cI) (hsc : va_X b L xs (cx_s X) (cx_s X).heap) (hbl : b < (cx_s X).heap.size) (hbA : ¬ cx_A X b) (hret : ∀ (w : va_W) (lv : List (Nat × Value)) (pc : Nat), decode cL_law pc = .ok (.ireturn, 1) → ww X w lv pc [.int 1]) : ∀ (n i : Nat) (P : Pg) (wx wm : va_W), L < i + n → i ≤ 325 → pOk P → xOK adx cB cI P wx → mOK adm cI P wm → ww X (wx ++ wm) [(0, .ref b), (1, .ref (adx 0)), (2, .ref (adm 0)), (3, .int (nI i))] 18 [] := by
  intro n
  induction n with
  | zero =>
    intro i P wx wm hn hi hok hx hm
    refine ww_iload_n (pc := 18) hX dL_law_18 3 rfl ?_
    refine ww_aload_n (pc := 19) hX dL_law_19 0 rfl ?_
    refine ww_slen (pc := 20) hX hsc hbl hbA dL_law_20 ?_
    refine ww_iconst (pc := 21) (v := nI 5) hX dL_law_21 (by decide) ?_
    refine ww_isub (pc := 22) hX dL_law_22 ?_
    refine ww_icmp_gt (pc := 23) (tgt := 448) hX dL_law_23 (by decide) (fun c1 => ?_) (fun c1 => ?_)
    · refine ww_iconst (pc := 448) (v := 1) hX dL_law_448 (by decide) ?_
      exact hret _ _ _ dL_law_449
    · exact absurd ((lw_cmp hL hi).mpr (by omega)) c1
  | succ n ih =>
    intro i P wx wm hn hi hok hx hm
    refine ww_iload_n (pc := 18) hX dL_law_18 3 rfl ?_
    refine ww_aload_n (pc := 19) hX dL_law_19 0 rfl ?_
    refine ww_slen (pc := 20) hX hsc hbl hbA dL_law_20 ?_
    refine ww_iconst (pc := 21) (v := nI 5) hX dL_law_21 (by decide) ?_
    refine ww_isub (pc := 22) hX dL_law_22 ?_
    refine ww_icmp_gt (pc := 23) (tgt := 448) hX dL_law_23 (by decide) (fun c1 => ?_) (fun c1 => ?_)
    · refine ww_iconst (pc := 448) (v := 1) hX dL_law_448 (by decide) ?_
      exact hret _ _ _ dL_law_449
    · have hi5 : i + 5 ≤ L := by
        rcases Nat.lt_or_ge L (i + 5) with h | h
        · exact absurd ((lw_cmp hL hi).mpr h) c1
        · exact h
      have K : ∀ (P' : Pg) (wx' wm' : va_W), pOk P' → xOK adx cB cI P' wx' → mOK adm cI P' wm' → ww X (wx' ++ wm') [(0, .ref b), (1, .ref (adx 0)), (2, .ref (adm 0)), (3, .int (nI i))] 442 [] := by
        intro P' wx' wm' hok' hx' hm'
        refine ww_iinc (pc := 442) (v := nI (i + 5)) (lv' := [(0, .ref b), (1, .ref (adx 0)), (2, .ref (adm 0)), (3, .int (nI (i + 5)))]) hX dL_law_442 3 rfl (nI_add i 5) (by decide) [1, 2, 3, 0] rfl ?_
        refine ww_goto (pc := 445) (tgt := 18) hX dL_law_445 (by decide) ?_
        exact ih (i + 5) P' wx' wm' (by omega) (by omega) hok' hx' hm'
      refine ww_aload_n (pc := 26) hX dL_law_26 0 rfl ?_
      refine ww_iload_n (pc := 27) hX dL_law_27 3 rfl ?_
      refine ww_sld (pc := 28) hX hsc hbl hbA (by omega) (by omega) dL_law_28 ?_
      refine ww_bipush (pc := 29) (v := nI 15) hX dL_law_29 (by decide) ?_
      refine ww_iand (pc := 31) hX dL_law_31 ?_
      obtain ⟨j, hj, ej⟩ := pk_andE (xs i) (m := nI 15) 4 (by decide)
      rw [ej]
      rcases (show j = 0 ∨ j = 1 ∨ j = 2 ∨ j = 3 ∨ j = 4 ∨ j = 5 ∨ j = 6 ∨ j = 7 ∨ j = 8 ∨ j = 9 ∨ j = 10 ∨ j = 11 ∨ 12 ≤ j by omega) with rfl | rfl | rfl | rfl | rfl | rfl | rfl | rfl | rfl | rfl | rfl | rfl | h12
      · refine ww_tableIn (pc := 32) (x := nI 0) (tgt := 96) hX dL_law_32 (by decide) (by decide) rfl (by decide) ?_
        exact law_case_0 hL hX hsc hbl hbA hi5 hok hx hm K
      · refine ww_tableIn (pc := 32) (x := nI 1) (tgt := 139) hX dL_law_32 (by decide) (by decide) rfl (by decide) ?_
        exact law_case_1 hL hX hsc hbl hbA hi5 hok hx hm K
      · refine ww_tableIn (pc := 32) (x := nI 2) (tgt := 162) hX dL_law_32 (by decide) (by decide) rfl (by decide) ?_
        exact law_case_2 hL hX hsc hbl hbA hi5 hok hx hm K
      · refine ww_tableIn (pc := 32) (x := nI 3) (tgt := 205) hX dL_law_32 (by decide) (by decide) rfl (by decide) ?_
        exact law_case_3 hL hX hsc hbl hbA hi5 hok hx hm K
      · refine ww_tableIn (pc := 32) (x := nI 4) (tgt := 228) hX dL_law_32 (by decide) (by decide) rfl (by decide) ?_
        exact law_case_4 hL hX hsc hbl hbA hi5 hok hx hm K
      · refine ww_tableIn (pc := 32) (x := nI 5) (tgt := 241) hX dL_law_32 (by decide) (by decide) rfl (by decide) ?_
        exact law_case_5 hL hX hsc hbl hbA hi5 hok hx hm K
      · refine ww_tableIn (pc := 32) (x := nI 6) (tgt := 254) hX dL_law_32 (by decide) (by decide) rfl (by decide) ?_
        exact law_case_6 hL hX hsc hbl hbA hi5 hok hx hm K
      · refine ww_tableIn (pc := 32) (x := nI 7) (tgt := 267) hX dL_law_32 (by decide) (by decide) rfl (by decide) ?_
        exact law_case_7 hL hX hsc hbl hbA hi5 hok hx hm K
      · refine ww_tableIn (pc := 32) (x := nI 8) (tgt := 300) hX dL_law_32 (by decide) (by decide) rfl (by decide) ?_
        exact law_case_8 hL hX hsc hbl hbA hi5 hok hx hm K
      · refine ww_tableIn (pc := 32) (x := nI 9) (tgt := 353) hX dL_law_32 (by decide) (by decide) rfl (by decide) ?_
        exact law_case_9 hL hX hsc hbl hbA hi5 hok hx hm K
      · refine ww_tableIn (pc := 32) (x := nI 10) (tgt := 386) hX dL_law_32 (by decide) (by decide) rfl (by decide) ?_
        exact law_case_10 hL hX hsc hbl hbA hi5 hok hx hm K
      · refine ww_tableIn (pc := 32) (x := nI 11) (tgt := 419) hX dL_law_32 (by decide) (by decide) rfl (by decide) ?_
        exact law_case_11 hL hX hsc hbl hbA hi5 hok hx hm K
      · refine ww_tableOut (pc := 32) (tgt := 442) hX dL_law_32 (Or.inr ?_) (by decide) (K P wx wm hok hx hm)
        rw [nI_toInt (by omega)]
        omega
end
section
set_option maxHeartbeats 4000000 in
set_option maxRecDepth 100000 in
/-- from the entry, for every script of at most 320 ints, the law comes to its end with true -/
theorem whole_start {p : Program} {e : Env} {s : State} {m : MethodId} {below : List Frame} {meth : Method} {c : Code} (l : Launch) {b L : Nat} {xs : Nat → Int32} (hL : L ≤ 320) (C0 : lw_At p s m meth c b L xs) : W p l e room_1 s m #[Value.ref b] below meth c s.heap [] 0 0 (lw_Z below #[Value.ref b] s) (entryFrame m ([Value.ref b] : List Value).toArray 4) := by
  obtain ⟨hx, hb, hr, hml, hown, hts0, hX, hbl, hlocks, hgv⟩ := id C0
  have hts : ∀ w ∈ lw_all, w.before #[Value.ref b] s = true := fun w h => hts0 w (lw_all_tbl h)
  have hA : ∀ q : Nat, s.heap.size ≤ q → (fun q : Nat => s.heap.size ≤ q) q := fun _ h => h
  have hbA : ¬ (fun q : Nat => s.heap.size ≤ q) b := Nat.not_le.mpr hbl
  obtain ⟨c0, iS0, hKn0⟩ := u_known (C := RX0) (T := TX0) (N := 22) (n := 22) hts in_X0 (hts _ q24)
  obtain ⟨c1, iS1, hKn1⟩ := u_known (C := RX1) (T := TX1) (N := 10) (n := 10) hts in_X1 (hts _ q200)
  obtain ⟨dC, dI, hKc⟩ : ∃ (dC : Nat → ClassId) (dI : Nat → Nat → Nat), ∀ (k : Nat) (q : vw_C), vwCl[k]? = some q → u_Kn s q.1 q.2.1 q.2.2 (dC k) (dI k) := by
    refine ⟨fun k => if k = 0 then c0 else c1, fun k => if k = 0 then iS0 else iS1, ?_⟩
    intro k q hq
    match k, hq with
    | 0, hq => cases hq; exact hKn0
    | 1, hq => cases hq; exact hKn1
    | k + 2, hq => simp [vwCl] at hq
  have hS : va_S (fun q : Nat => s.heap.size ≤ q) s.heap s.heap [] := va_S.rf
  have hK : va_K (dC, dI) vwCl [] s := ⟨hKc, fun k q h => by simp at h⟩
  have hP : va_P (dC, dI) vwCl [] s.heap := fun k q h => by simp at h
  have hD : va_D (fun q : Nat => s.heap.size ≤ q) [] := ⟨fun i j p q h => by simp at h, fun k q h => by simp at h⟩
  have hl := lv_entry ([.ref b]) (n := 4) (Nat.le_of_ble_eq_true rfl)
  rw [lg_entry_eq]
  generalize (lg_sl ([.ref b]) ++ List.replicate (4 - (lg_sl ([.ref b])).length) Slot.unset).toArray = ls at hl ⊢
  have hl : lv_has ls 4 [(0, .ref b)] := hl
  refine va_new (ci := 0) (fs := [.null, .null, .null, .null, .null, .null, .null, .null, .null, .null, .null, .int 0, .int 0, .int 0, .int 0, .int 0, .int 0, .int 0, .null, .null, .null, .null]) (C := RX0) (T := TX0) (N := 22) hx hb hts in_X0 tyX0 tyX0_ok hown (hts _ q23) (hts _ q24) (hts _ q21) hK hP hD hS hA rfl (fun j hj => by rcases (show j = 0 ∨ j = 1 ∨ j = 2 ∨ j = 3 ∨ j = 4 ∨ j = 5 ∨ j = 6 ∨ j = 7 ∨ j = 8 ∨ j = 9 ∨ j = 10 ∨ j = 11 ∨ j = 12 ∨ j = 13 ∨ j = 14 ∨ j = 15 ∨ j = 16 ∨ j = 17 ∨ j = 18 ∨ j = 19 ∨ j = 20 ∨ j = 21 by omega) with rfl | rfl | rfl | rfl | rfl | rfl | rfl | rfl | rfl | rfl | rfl | rfl | rfl | rfl | rfl | rfl | rfl | rfl | rfl | rfl | rfl | rfl <;> rfl) (Nat.le_of_ble_eq_true rfl) (Nat.le_of_ble_eq_true rfl) dL_law_0 (fun qx H hP hD hS => ?_)
  have hP : va_P (dC, dI) vwCl [(qx, .inr (0, [.null, .null, .null, .null, .null, .null, .null, .null, .null, .null, .null, .int 0, .int 0, .int 0, .int 0, .int 0, .int 0, .int 0, .null, .null, .null, .null]))] H := hP
  have hD : va_D (fun q : Nat => s.heap.size ≤ q) [(qx, .inr (0, [.null, .null, .null, .null, .null, .null, .null, .null, .null, .null, .null, .int 0, .int 0, .int 0, .int 0, .int 0, .int 0, .int 0, .null, .null, .null, .null]))] := hD
  refine W.widen (k := 1) (n := 22) (by omega) (by omega) ?_
  refine lv_dup hx hb dL_law_3 rfl ?_
  have hFc := va_free (wc := [(qx, .inr (0, [.null, .null, .null, .null, .null, .null, .null, .null, .null, .null, .null, .int 0, .int 0, .int 0, .int 0, .int 0, .int 0, .int 0, .null, .null, .null, .null]))]) hD hS hA [0] rfl
  refine va_callv (va_runI (As := []) (rest := [.ref qx]) ⟨hx, hb, hml, hown, hts⟩ (xm_init l (dC, dI) qx H.size) (cwI 0 hts (lw_meth q27) rfl rfl rfl (hts _ q21) (hts _ q25) (hts _ q26) rfl (by decide +kernel) ⟨Nat.le_of_ble_eq_true rfl, Nat.le_of_ble_eq_true rfl⟩) ⟨fun a U g mk q => by obtain ⟨q0, q1, qP, qK, qD⟩ := q; exact ⟨q0, q1, qP, va_K.moved (u := U) (U := U.calling g mk a) (Vm.Alike.refl U.vm) qK, qD⟩, fun U hU hW => ⟨rfl, by rw [hU], by rw [hU]; exact hP, va_K.moved hW.alike hK, hD.weaken (fun _ _ _ _ => trivial)⟩⟩ rfl rfl hl.1 rfl (lv_room (Nat.le_of_ble_eq_true rfl)) dL_law_4 ⟨Nat.le_of_ble_eq_true rfl, Nat.le_of_ble_eq_true rfl⟩) hS (fun q _ h => hFc q h) hFc (fun u t H1 locs ht hvm hw hB hz1 hk1 hS => ?_)
  obtain ⟨adx, cB, cI⟩ := u
  obtain ⟨hP1, hK1, hD1⟩ := hB
  rw [ht] at hP1
  have hw : adx 0 = qx := hw
  have hK : va_K (dC, dI) vwCl (ty2 cB cI) s := va_K.moved hvm.symm hK1
  have hPx : va_P (dC, dI) vwCl (xW adx cB cI ((fun _ => 0, fun _ => 0, fun _ => 0, fun _ => 0, fun _ => 0) : Pg) (fun _ => 0) (fun _ => 0) (fun _ => 0) (fun _ => 0) (fun _ => 0) (fun _ => 0) false 0 0 0 0 false 0 (fun _ => 0) (fun _ => 0) (fun _ => 0) (fun _ => 0)) H1 := hP1
  have hDx : va_D (fun q : Nat => s.heap.size ≤ q) (xW adx cB cI ((fun _ => 0, fun _ => 0, fun _ => 0, fun _ => 0, fun _ => 0) : Pg) (fun _ => 0) (fun _ => 0) (fun _ => 0) (fun _ => 0) (fun _ => 0) (fun _ => 0) false 0 0 0 0 false 0 (fun _ => 0) (fun _ => 0) (fun _ => 0) (fun _ => 0)) := hD1.weaken (fun _ _ _ h => hFc _ h)
  clear hP hD hP1 hD1 hFc hk1 hK1
  subst hw
  generalize H1 = H at hPx hS ⊢
  have hP := hPx
  have hD := hDx
  refine W.widen (k := 16) (n := 335) (Nat.le_of_ble_eq_true rfl) (Nat.le_of_ble_eq_true rfl) ?_
  refine lv_astore_n (lv' := [(1, .ref (adx 0)), (0, .ref b)]) hx hb dL_law_7 rfl hl (by decide) rfl (fun ls hl => ?_)
  refine va_new (ci := 1) (fs := [.null, .null, .null, .null, .int 0, .null, .null, .null, .null, .null]) (C := RX1) (T := TX1) (N := 10) hx hb hts in_X1 tyX1 tyX1_ok hown (hts _ q199) (hts _ q200) (hts _ q22) hK hP hD hS hA rfl (fun j hj => by rcases (show j = 0 ∨ j = 1 ∨ j = 2 ∨ j = 3 ∨ j = 4 ∨ j = 5 ∨ j = 6 ∨ j = 7 ∨ j = 8 ∨ j = 9 by omega) with rfl | rfl | rfl | rfl | rfl | rfl | rfl | rfl | rfl | rfl <;> rfl) (Nat.le_of_ble_eq_true rfl) (Nat.le_of_ble_eq_true rfl) dL_law_8 (fun qm H hP hD hS => ?_)
  refine W.widen (k := 17) (n := 345) (Nat.le_of_ble_eq_true rfl) (Nat.le_of_ble_eq_true rfl) ?_
  refine lv_dup hx hb dL_law_11 rfl ?_
  have hPc : va_P (dC, dI) vwCl [(qm, .inr (1, [.null, .null, .null, .null, .int 0, .null, .null, .null, .null, .null]))] H := va_P_r hP
  have hDc : va_D (fun q : Nat => s.heap.size ≤ q) [(qm, .inr (1, [.null, .null, .null, .null, .int 0, .null, .null, .null, .null, .null]))] := va_D_r hD
  have hKc2 := hK.sub (tys' := []) [] rfl
  have hFc := va_free (wc := [(qm, .inr (1, [.null, .null, .null, .null, .int 0, .null, .null, .null, .null, .null]))]) hDc hS hA [0] rfl
  refine va_callv (va_runI (As := []) (rest := [.ref qm]) ⟨hx, hb, hml, hown, hts⟩ (mm_init l (dC, dI) qm H.size) (cwI 0 hts (lw_meth q203) rfl rfl rfl (hts _ q22) (hts _ q201) (hts _ q202) rfl (by decide +kernel) ⟨Nat.le_of_ble_eq_true rfl, Nat.le_of_ble_eq_true rfl⟩) ⟨fun a U g mk q => by obtain ⟨q0, q1, qP, qK, qD⟩ := q; exact ⟨q0, q1, qP, va_K.moved (u := U) (U := U.calling g mk a) (Vm.Alike.refl U.vm) qK, qD⟩, fun U hU hW => ⟨rfl, by rw [hU], by rw [hU]; exact hPc, va_K.moved hW.alike hKc2, hDc.weaken (fun _ _ _ _ => trivial)⟩⟩ rfl rfl hl.1 rfl (lv_room (Nat.le_of_ble_eq_true rfl)) dL_law_12 ⟨Nat.le_of_ble_eq_true rfl, Nat.le_of_ble_eq_true rfl⟩) hS (fun q _ h => hFc q h) hFc (fun u t H1 locs ht hvm hw hB hz1 hk1 hS => ?_)
  obtain ⟨adm, cI2⟩ := u
  obtain ⟨hP1, hK1, hD1⟩ := hB
  rw [ht] at hP1
  have hw : adm 0 = qm := hw
  have hK1 := va_K.moved hvm.symm hK1
  have ec : cI = cI2 := Option.some.inj ((hK.2 1 _ rfl).2.symm.trans (hK1.2 0 _ rfl).2)
  subst ec
  have hP1 : va_P (dC, dI) vwCl (mW adm cI ((fun _ => 0, fun _ => 0, fun _ => 0, fun _ => 0, fun _ => 0) : Pg) 0 (fun _ => 0) (fun _ => 0) (fun _ => 0) (fun _ => 0) (fun _ => 0)) H1 := hP1
  obtain ⟨hPx, hDx⟩ := va_join (wc := [(qm, .inr (1, [.null, .null, .null, .null, .int 0, .null, .null, .null, .null, .null]))]) (wr := xW adx cB cI ((fun _ => 0, fun _ => 0, fun _ => 0, fun _ => 0, fun _ => 0) : Pg) (fun _ => 0) (fun _ => 0) (fun _ => 0) (fun _ => 0) (fun _ => 0) (fun _ => 0) false 0 0 0 0 false 0 (fun _ => 0) (fun _ => 0) (fun _ => 0) (fun _ => 0)) (w1 := mW adm cI ((fun _ => 0, fun _ => 0, fun _ => 0, fun _ => 0, fun _ => 0) : Pg) 0 (fun _ => 0) (fun _ => 0) (fun _ => 0) (fun _ => 0) (fun _ => 0)) hP hD [16] [0, 1, 2, 3, 4, 5, 6, 7, 8, 9, 10, 11, 12, 13, 14, 15] rfl rfl (by decide) (by decide) hk1 hFc hP1 hD1
  clear hP hD hPc hDc hP1 hD1 hFc hk1 hK1
  subst hw
  generalize H1 = H at hPx hS ⊢
  have hP := hPx
  have hD := hDx
  refine W.widen (k := 26) (n := 413) (Nat.le_of_ble_eq_true rfl) (Nat.le_of_ble_eq_true rfl) ?_
  refine lv_astore_n (lv' := [(2, .ref (adm 0)), (1, .ref (adx 0)), (0, .ref b)]) hx hb dL_law_15 rfl hl (by decide) rfl (fun ls hl => ?_)
  refine lv_iconst (v := nI 0) hx hb dL_law_16 (by decide) ?_
  refine lv_istore_n (lv' := [(3, .int (nI 0)), (2, .ref (adm 0)), (1, .ref (adx 0)), (0, .ref b)]) hx hb dL_law_17 rfl hl (by decide) rfl (fun ls hl => ?_)
  have h := law_loop (X := (p, l, e, room_1, s, m, #[Value.ref b], below, meth, c, (dC, dI), (fun q : Nat => s.heap.size ≤ q), 4, 26, 413, lw_Z below #[Value.ref b] s)) (adx := adx) (adm := adm) (cB := cB) (cI := cI) hL ⟨hx, hb, ⟨hml, rfl⟩, hown, hts, hK, ⟨Nat.le_of_ble_eq_true rfl, Nat.le_of_ble_eq_true rfl, Nat.le_of_ble_eq_true rfl, Nat.le_of_ble_eq_true rfl⟩, hA⟩ hX hbl hbA (fun w lv pc hd H locs ls hP hD hS hl => va_forget (fun q hq => hS.2.2 q hq) (W.widen (k := 600000) (n := 7290000) (Nat.le_of_ble_eq_true rfl) (Nat.le_of_ble_eq_true rfl) (lw_ret hx hb hr hlocks hd))) (L + 1) 0 ((fun _ => 0, fun _ => 0, fun _ => 0, fun _ => 0, fun _ => 0) : Pg) (xW adx cB cI ((fun _ => 0, fun _ => 0, fun _ => 0, fun _ => 0, fun _ => 0) : Pg) (fun _ => 0) (fun _ => 0) (fun _ => 0) (fun _ => 0) (fun _ => 0) (fun _ => 0) false 0 0 0 0 false 0 (fun _ => 0) (fun _ => 0) (fun _ => 0) (fun _ => 0)) (mW adm cI ((fun _ => 0, fun _ => 0, fun _ => 0, fun _ => 0, fun _ => 0) : Pg) 0 (fun _ => 0) (fun _ => 0) (fun _ => 0) (fun _ => 0) (fun _ => 0)) (by omega) (by decide) pOk_0 ⟨_, _, _, _, _, _, _, _, _, _, _, _, _, _, _, _, _, by decide, by decide, rfl⟩ ⟨_, _, _, _, _, _, rfl⟩
  exact h H locs ls hP hD hS (lv_sub hl [3, 2, 1, 0] rfl)
end
section
-- ===== YOUR PART ENDS =====
set_option maxHeartbeats 4000000 in
theorem lw_walk (l : Launch) (b : Addr) (xs : List Int32) : MetFree l x (headSpec (Jvm.Cond.code x code maxLocals ret :: tables_1) room_1) (lw_P b xs) (fun _ _ _ _ _ => True) lw_Q := by
  refine MetFree.of_bodyS (code := code) (maxLocals := maxLocals) (ret := ret) (by decide) ?_ ?_
  · intro args s m h hn
    obtain ⟨meth, c, h1, h2, h3, h4, h5, h6, -, -⟩ := Cond.code_spec hn (atoms_spec (ws := Jvm.Cond.code x code maxLocals ret :: tables_1) h _ List.mem_cons_self)
    exact ⟨meth, c, h1, h2, h3, h4, h5, h6⟩
  · intro p e s m args below meth c s₁ B hml0 hP _
    obtain ⟨rfl, hx, hbd, hgv⟩ := hP
    obtain ⟨scr, harrAt, hlist, hof, hsmall⟩ := hx
    obtain ⟨hcb, hkn, -, -⟩ := State.arrayAt?_spec harrAt
    have hown : s.vm.findClass R_law = some m.cls := findClass_of_methodNamed B.named
    have hts0 : ∀ c ∈ (Jvm.Cond.code x code maxLocals ret :: tables_1), c.before #[Value.ref b] s = true := atoms_spec (ws := Jvm.Cond.code x code maxLocals ret :: tables_1) B.pre
    have hts : ∀ w ∈ lw_tbl, w.before #[Value.ref b] s = true := k2_hts_sels lw_privs (fun w hw => hts0 w (List.mem_cons_of_mem _ hw)) lw_privs_ok
    have hml : c.maxLocals = 4 := B.maxLocals_eq (hts0 _ List.mem_cons_self)
    have X₀ : Stand p l e room_1 s m #[Value.ref b] below meth c s₁ [] 0 0 := Stand.of_body B
    have hh0 : s₁.heap = s.heap := by rw [B.state]; rfl
    have hsz : scr.slots.size = xs.length := by rw [← Array.length_toList, hlist, List.length_map]
    have hval : ∀ j : Nat, j < xs.length → scr.slots[j]? = some (.int (xs.getD j 0)) := fun j hj => by
      rw [← Array.getElem?_toList, hlist]
      simp [hj]
    have hbl : b < s.heap.size := (Array.getElem?_eq_some_iff.mp hcb).1
    have hX : va_X b xs.length (fun j => xs.getD j 0) s s.heap := ⟨scr, hcb, hof, hkn, hsz, hval⟩
    have K : W p l e room_1 s m #[Value.ref b] below meth c s₁.heap [] 0 0 (lw_Z below #[Value.ref b] s) (entryFrame m ([Value.ref b] : List Value).toArray 4) := by
      rw [hh0]
      exact whole_start l hbd ⟨B.exec, B.bytes, B.returns, hml, hown, hts, hX, hbl, B.notSynchronized, hgv⟩
    obtain ⟨t, a1, o, b1, b2, b3⟩ := K s₁ rfl X₀
    exact ⟨t, o, a1, b1, b2, b3⟩
theorem lw_pre_spec {args : Array Value} {s : State} (h : (Jvm.Cond.and given_1 narrow_1).before args s = true) (hr : rest_1_c.before args s = true) : ∃ (b : Addr) (xs : List Int32), lw_P b xs args s := by
  have hs := flat_of_before _ h
  have hq := flat_of_before _ hr
  have hc : (Cond.count 1).before args s = true := hs _ (by decide +kernel)
  have harr : (Cond.arrayOf (.arg 0) .int).before args s = true := hs _ (by decide +kernel)
  have hle : (Cond.le (.length (.arg 0)) (.int 320)).before args s = true := hs _ (by decide +kernel)
  have hlen : (Cond.isInt (.length (.arg 0))).before args s = true := hq _ (by decide +kernel)
  have hall : (Cond.all (.arg 0) (.isInt (.elem (.arg 0) (.index 0)))).before args s = true := hq _ (by decide +kernel)
  obtain ⟨b, xs, hb, hx⟩ := State.ints_of_pre rfl harr hlen hall
  have hsm : xs.length < 2 ^ 31 := hx.choose_spec.2.2.2
  have hev : (Term.length (.arg 0)).eval args s none [] s = some (.int xs.length.toInt32) := hx.length_eval hb
  have hv := Cond.le_ints hev (show (Term.int 320).eval args s none [] s = some (.int 320) from rfl)
  have hd : xs.length.toInt32 ≤ 320 := by
    simpa [Cond.before, Cond.holds, hv] using hle
  have hN : xs.length ≤ 320 := (Int32.ofNat_le_ofNat hsm (by decide)).mp (show Int32.ofNat xs.length ≤ Int32.ofNat 320 from hd)
  exact ⟨b, xs, Cond.one_arg hc (show args[0]? = some (.ref b) from hb), hx, hN, h⟩
theorem lw_comes (l : Launch) : Comes l x (Jvm.Cond.code x code maxLocals ret :: tables_1) room_1 (fun tb e args s => Calls_1 tb e args s ∧ rest_1 tb e args s ∧ Pre_1 tb e args s)
    (fun _ _ args s o t => lw_Q args s o t) := by
  intro p e ha hc hk s m args below hf hfit hheap happ hpre
  obtain ⟨b, xs, hP⟩ := lw_pre_spec hpre.2.2 hpre.2.1
  obtain ⟨k, o, h1, h2, h3, hQ⟩ := lw_walk l b xs p e ha hc hk s m args below hf ((Spec.applies_iff_loose hf).mp happ).1 hP trivial
  exact ⟨k, o, h1, h2, h3, hQ⟩
theorem lw_frame {s t : State} {o : Outcome} {args : Array Value} (h : Framed s o t [] 600000 7290000) :
    Framed s o t (fieldLocs frame_1_writes args s ++ arrayLocs frame_1_arrays args s ++ staticLocs frame_1_statics s) 600000 7290000 := h
theorem lw_limb (L : Cond) (hL : ∀ (args : Array Value) (s t : State), L.after args s (.returned (some (.int 1))) t = true) :
    ArmFor flags0 classFile x code maxLocals ret World_1 tables_1 room_1 Calls_1 rest_1 Pre_1
      (fun tb e a s o t => postC L tb e a s o t ∧ Framed s o t (fieldLocs frame_1_writes a s ++ arrayLocs frame_1_arrays a s ++ staticLocs frame_1_statics s) 600000 7290000) := by
  intro l _ _ _ p e ha hc hk s m args below hf hfit hheap happ hpre
  obtain ⟨k, o, h1, h2, h3, rfl, hF⟩ := lw_comes l p e ha hc hk s m args below hf hfit hheap happ hpre
  exact ⟨k, _, h1, h2, h3, hL args s _, lw_frame hF⟩
theorem i_vc : Claimed_1_1 ∧ Claimed_1_2 := ⟨lw_limb limb_1_1 (fun args s t => by simp [limb_1_1, Cond.after, Cond.holds, Cond.value]), lw_limb limb_1_2 (fun args s t => Cond.after_iff.mpr (by
  first | (rw [show limb_1_2 = Cond.eq .result (.int 1) from rfl, Cond.eq_ints (x := 1) (y := 1) rfl rfl]; simp; done) | (simp [limb_1_2, Cond.value, Term.eval]; done)))⟩
end
