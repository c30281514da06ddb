section
-- ===== PART A: goes FIRST, ahead of the names: the tables' words, and 'selects' of the private methods out of them =====
/-- a private method of a class that the tables say can be made, by its rows of tables_1 -/
def lw_okq (q : MethodName × Nat) : Prop := (q.1.cls ≠ "java/lang/invoke/MethodHandle" ∧ q.1.cls ≠ "java/lang/invoke/VarHandle") ∧ Cond.instantiable q.1.cls q.2 ∈ tables_1 ∧ Cond.privateMethod q.1 ∈ tables_1 ∧ Cond.instanceMethod q.1 ∈ tables_1
set_option maxRecDepth 100000
theorem lw_t1 {w : Cond} (h : w ∈ tables_1_1) : w ∈ tables_1 := List.mem_append_left _ h
theorem lw_t2 {w : Cond} (h : w ∈ tables_1_2) : w ∈ tables_1 := List.mem_append_right _ h
theorem lw_p0 : lw_okq (⟨"OptimisticSim", "newEvent", "(IIII)I"⟩, 19) := ⟨⟨by decide +kernel, by decide +kernel⟩, lw_t1 (List.mem_of_getElem? (i := 4) rfl), lw_t1 (List.mem_of_getElem? (i := 87) rfl), lw_t1 (List.mem_of_getElem? (i := 88) rfl)⟩
theorem lw_p1 : lw_okq (⟨"OptimisticSim", "arrive", "(I)V"⟩, 19) := ⟨⟨by decide +kernel, by decide +kernel⟩, lw_t1 (List.mem_of_getElem? (i := 4) rfl), lw_t1 (List.mem_of_getElem? (i := 91) rfl), lw_t1 (List.mem_of_getElem? (i := 92) rfl)⟩
theorem lw_p2 : lw_okq (⟨"OptimisticSim", "goBack", "(I)V"⟩, 19) := ⟨⟨by decide +kernel, by decide +kernel⟩, lw_t1 (List.mem_of_getElem? (i := 4) rfl), lw_t1 (List.mem_of_getElem? (i := 95) rfl), lw_t1 (List.mem_of_getElem? (i := 96) rfl)⟩
theorem lw_p3 : lw_okq (⟨"OptimisticSim", "lastOf", "(I)I"⟩, 19) := ⟨⟨by decide +kernel, by decide +kernel⟩, lw_t1 (List.mem_of_getElem? (i := 4) rfl), lw_t1 (List.mem_of_getElem? (i := 99) rfl), lw_t1 (List.mem_of_getElem? (i := 100) rfl)⟩
theorem lw_p4 : lw_okq (⟨"OptimisticSim", "sooner", "(II)Z"⟩, 19) := ⟨⟨by decide +kernel, by decide +kernel⟩, lw_t1 (List.mem_of_getElem? (i := 4) rfl), lw_t1 (List.mem_of_getElem? (i := 103) rfl), lw_t1 (List.mem_of_getElem? (i := 104) rfl)⟩
theorem lw_p5 : lw_okq (⟨"OptimisticSim", "undo", "(I)V"⟩, 19) := ⟨⟨by decide +kernel, by decide +kernel⟩, lw_t1 (List.mem_of_getElem? (i := 4) rfl), lw_t1 (List.mem_of_getElem? (i := 107) rfl), lw_t1 (List.mem_of_getElem? (i := 108) rfl)⟩
theorem lw_p6 : lw_okq (⟨"OptimisticSim", "callBack", "()V"⟩, 19) := ⟨⟨by decide +kernel, by decide +kernel⟩, lw_t1 (List.mem_of_getElem? (i := 4) rfl), lw_t1 (List.mem_of_getElem? (i := 111) rfl), lw_t1 (List.mem_of_getElem? (i := 112) rfl)⟩
theorem lw_p7 : lw_okq (⟨"OptimisticSim", "nextOf", "(I)I"⟩, 19) := ⟨⟨by decide +kernel, by decide +kernel⟩, lw_t1 (List.mem_of_getElem? (i := 4) rfl), lw_t1 (List.mem_of_getElem? (i := 119) rfl), lw_t1 (List.mem_of_getElem? (i := 120) rfl)⟩
theorem lw_p8 : lw_okq (⟨"OptimisticSim", "handle", "(I)V"⟩, 19) := ⟨⟨by decide +kernel, by decide +kernel⟩, lw_t1 (List.mem_of_getElem? (i := 4) rfl), lw_t1 (List.mem_of_getElem? (i := 123) rfl), lw_t1 (List.mem_of_getElem? (i := 124) rfl)⟩
theorem lw_p9 : lw_okq (⟨"OptimisticSim", "reach", "(I)V"⟩, 19) := ⟨⟨by decide +kernel, by decide +kernel⟩, lw_t1 (List.mem_of_getElem? (i := 4) rfl), lw_t1 (List.mem_of_getElem? (i := 131) rfl), lw_t1 (List.mem_of_getElem? (i := 132) rfl)⟩
theorem lw_p10 : lw_okq (⟨"OptimisticSim", "earliest", "(I)I"⟩, 19) := ⟨⟨by decide +kernel, by decide +kernel⟩, lw_t1 (List.mem_of_getElem? (i := 4) rfl), lw_t1 (List.mem_of_getElem? (i := 135) rfl), lw_t1 (List.mem_of_getElem? (i := 136) rfl)⟩
theorem lw_p11 : lw_okq (⟨"OptimisticSim", "stateAt", "(II)I"⟩, 19) := ⟨⟨by decide +kernel, by decide +kernel⟩, lw_t1 (List.mem_of_getElem? (i := 4) rfl), lw_t1 (List.mem_of_getElem? (i := 139) rfl), lw_t1 (List.mem_of_getElem? (i := 140) rfl)⟩
theorem lw_p12 : lw_okq (⟨"OptimisticSim", "countUpTo", "(II)I"⟩, 19) := ⟨⟨by decide +kernel, by decide +kernel⟩, lw_t1 (List.mem_of_getElem? (i := 4) rfl), lw_t1 (List.mem_of_getElem? (i := 143) rfl), lw_t1 (List.mem_of_getElem? (i := 144) rfl)⟩
theorem lw_p13 : lw_okq (⟨"OptimisticSim", "badTime", "(I)Z"⟩, 19) := ⟨⟨by decide +kernel, by decide +kernel⟩, lw_t1 (List.mem_of_getElem? (i := 4) rfl), lw_t1 (List.mem_of_getElem? (i := 152) rfl), lw_t1 (List.mem_of_getElem? (i := 153) rfl)⟩
theorem lw_p14 : lw_okq (⟨"OptimisticSimModel", "bad", "(I)Z"⟩, 14) := ⟨⟨by decide +kernel, by decide +kernel⟩, lw_t1 (List.mem_of_getElem? (i := 172) rfl), lw_t1 (List.mem_of_getElem? (i := 225) rfl), lw_t1 (List.mem_of_getElem? (i := 226) rfl)⟩
theorem lw_p15 : lw_okq (⟨"OptimisticSimModel", "put", "(IIII)V"⟩, 14) := ⟨⟨by decide +kernel, by decide +kernel⟩, lw_t1 (List.mem_of_getElem? (i := 172) rfl), lw_t1 (List.mem_of_getElem? (i := 233) rfl), lw_t1 (List.mem_of_getElem? (i := 234) rfl)⟩
def lw_privs_1 : List (MethodName × Nat) := [(⟨"OptimisticSim", "newEvent", "(IIII)I"⟩, 19), (⟨"OptimisticSim", "arrive", "(I)V"⟩, 19), (⟨"OptimisticSim", "goBack", "(I)V"⟩, 19), (⟨"OptimisticSim", "lastOf", "(I)I"⟩, 19), (⟨"OptimisticSim", "sooner", "(II)Z"⟩, 19), (⟨"OptimisticSim", "undo", "(I)V"⟩, 19), (⟨"OptimisticSim", "callBack", "()V"⟩, 19), (⟨"OptimisticSim", "nextOf", "(I)I"⟩, 19), (⟨"OptimisticSim", "handle", "(I)V"⟩, 19), (⟨"OptimisticSim", "reach", "(I)V"⟩, 19), (⟨"OptimisticSim", "earliest", "(I)I"⟩, 19), (⟨"OptimisticSim", "stateAt", "(II)I"⟩, 19), (⟨"OptimisticSim", "countUpTo", "(II)I"⟩, 19), (⟨"OptimisticSim", "badTime", "(I)Z"⟩, 19), (⟨"OptimisticSimModel", "bad", "(I)Z"⟩, 14), (⟨"OptimisticSimModel", "put", "(IIII)V"⟩, 14)]
theorem lw_r1 : ∀ q ∈ lw_privs_1, lw_okq q := List.forall_mem_cons.mpr ⟨lw_p0, List.forall_mem_cons.mpr ⟨lw_p1, List.forall_mem_cons.mpr ⟨lw_p2, List.forall_mem_cons.mpr ⟨lw_p3, List.forall_mem_cons.mpr ⟨lw_p4, List.forall_mem_cons.mpr ⟨lw_p5, List.forall_mem_cons.mpr ⟨lw_p6, List.forall_mem_cons.mpr ⟨lw_p7, List.forall_mem_cons.mpr ⟨lw_p8, List.forall_mem_cons.mpr ⟨lw_p9, List.forall_mem_cons.mpr ⟨lw_p10, List.forall_mem_cons.mpr ⟨lw_p11, List.forall_mem_cons.mpr ⟨lw_p12, List.forall_mem_cons.mpr ⟨lw_p13, List.forall_mem_cons.mpr ⟨lw_p14, List.forall_mem_cons.mpr ⟨lw_p15, fun _ h => absurd h List.not_mem_nil⟩⟩⟩⟩⟩⟩⟩⟩⟩⟩⟩⟩⟩⟩⟩⟩
theorem lw_p16 : lw_okq (⟨"OptimisticSimModel", "simulate", "(I)V"⟩, 14) := ⟨⟨by decide +kernel, by decide +kernel⟩, lw_t1 (List.mem_of_getElem? (i := 172) rfl), lw_t2 (List.mem_of_getElem? (i := 5) rfl), lw_t2 (List.mem_of_getElem? (i := 6) rfl)⟩
theorem lw_p17 : lw_okq (⟨"OptimisticSimModel", "next", "()I"⟩, 14) := ⟨⟨by decide +kernel, by decide +kernel⟩, lw_t1 (List.mem_of_getElem? (i := 172) rfl), lw_t2 (List.mem_of_getElem? (i := 9) rfl), lw_t2 (List.mem_of_getElem? (i := 10) rfl)⟩
theorem lw_p18 : lw_okq (⟨"OptimisticSimModel", "before", "(II)Z"⟩, 14) := ⟨⟨by decide +kernel, by decide +kernel⟩, lw_t1 (List.mem_of_getElem? (i := 172) rfl), lw_t2 (List.mem_of_getElem? (i := 13) rfl), lw_t2 (List.mem_of_getElem? (i := 14) rfl)⟩
theorem lw_p19 : lw_okq (⟨"OptimisticSimModel", "handle", "(I)V"⟩, 14) := ⟨⟨by decide +kernel, by decide +kernel⟩, lw_t1 (List.mem_of_getElem? (i := 172) rfl), lw_t2 (List.mem_of_getElem? (i := 17) rfl), lw_t2 (List.mem_of_getElem? (i := 18) rfl)⟩
theorem lw_p20 : lw_okq (⟨"OptimisticSimModel", "all", "()I"⟩, 14) := ⟨⟨by decide +kernel, by decide +kernel⟩, lw_t1 (List.mem_of_getElem? (i := 172) rfl), lw_t2 (List.mem_of_getElem? (i := 21) rfl), lw_t2 (List.mem_of_getElem? (i := 22) rfl)⟩
theorem lw_p21 : lw_okq (⟨"OptimisticSimModel", "askable", "(I)Z"⟩, 14) := ⟨⟨by decide +kernel, by decide +kernel⟩, lw_t1 (List.mem_of_getElem? (i := 172) rfl), lw_t2 (List.mem_of_getElem? (i := 33) rfl), lw_t2 (List.mem_of_getElem? (i := 34) rfl)⟩
def lw_privs_2 : List (MethodName × Nat) := [(⟨"OptimisticSimModel", "simulate", "(I)V"⟩, 14), (⟨"OptimisticSimModel", "next", "()I"⟩, 14), (⟨"OptimisticSimModel", "before", "(II)Z"⟩, 14), (⟨"OptimisticSimModel", "handle", "(I)V"⟩, 14), (⟨"OptimisticSimModel", "all", "()I"⟩, 14), (⟨"OptimisticSimModel", "askable", "(I)Z"⟩, 14)]
theorem lw_r2 : ∀ q ∈ lw_privs_2, lw_okq q := List.forall_mem_cons.mpr ⟨lw_p16, List.forall_mem_cons.mpr ⟨lw_p17, List.forall_mem_cons.mpr ⟨lw_p18, List.forall_mem_cons.mpr ⟨lw_p19, List.forall_mem_cons.mpr ⟨lw_p20, List.forall_mem_cons.mpr ⟨lw_p21, fun _ h => absurd h List.not_mem_nil⟩⟩⟩⟩⟩⟩
def lw_privs : List (MethodName × Nat) := lw_privs_1 ++ (lw_privs_2)
def lw_tbl : List Cond := k2_sels lw_privs ++ tables_1
theorem lw_privs_ok : ∀ q ∈ lw_privs, lw_okq q := by
  show ∀ q ∈ lw_privs_1 ++ (lw_privs_2), lw_okq q
  exact List.forall_mem_append.mpr ⟨lw_r1, lw_r2⟩
-- ===== ONE list of words for every method: the tables' words that hold all through a run =====
def lw_all : List Cond := lw_tbl.filter goodWord
/-- a word of the tables by its place: claim/WORDS.tsv -/
theorem lw_w {w : Cond} (i : Nat) (h : lw_tbl[i]? = some w) (g : goodWord w = true) : w ∈ lw_all := List.mem_filter.mpr ⟨List.mem_of_getElem? h, g⟩
theorem lw_all_tbl {w : Cond} (h : w ∈ lw_all) : w ∈ lw_tbl := (List.mem_filter.mp h).1
theorem lw_self : GoodIn lw_all lw_all := fun w h => ⟨h, good_of_word (List.mem_filter.mp h).2⟩
/-- a class's field words, by their places -/
theorem lw_in (ws : List Cond) (ps : List Nat) (hp : ws = ps.filterMap (fun i => lw_tbl[i]?)) (hg : ws.all goodWord = true) : ∀ w ∈ ws, w ∈ lw_all := by
  intro w h
  have h1 := List.all_eq_true.mp hg w h
  rw [hp] at h
  obtain ⟨i, -, hi⟩ := List.mem_filterMap.mp h
  exact lw_w i hi h1
/-- the words of a contract for the method y with code b, L locals, answer r -/
abbrev ws_ (y : MethodName) (b : ByteArray) (L : Nat) (r : Option FieldType) : List Cond := Cond.code y b L r :: lw_all
theorem lw_meth {y : MethodName} {b : ByteArray} {L : Nat} {r : Option FieldType} (h : Cond.code y b L r ∈ lw_all) : GoodIn lw_all (ws_ y b L r) := by
  intro w hw
  rcases List.mem_cons.mp hw with e | e
  · rw [e]
    exact lw_self _ h
  · exact lw_self _ e
theorem lw_app {a c : List Cond} (ha : ∀ w ∈ a, w ∈ lw_all) (hc : GoodIn lw_all c) : GoodIn lw_all (a ++ c) := by
  intro w hw
  rcases List.mem_append.mp hw with e | e
  · exact lw_self w (ha w e)
  · exact hc w e
/-- what a call through an object asks: cwV n hts (lw_V ..) -/
theorem lw_V {own : String} {idx : Nat} {C : String} {y : MethodName} {b : ByteArray} {L : Nat} {r : Option FieldType} (h1 : Cond.methodLink own idx y ∈ lw_all) (h2 : Cond.instanceMethod y ∈ lw_all) (h3 : Cond.selects C y y ∈ lw_all) (h4 : Cond.initialized C ∈ lw_all) (h5 : Cond.code y b L r ∈ lw_all) : GoodIn lw_all (wsV own idx C y (ws_ y b L r)) := by
  refine lw_app ?_ (lw_meth h5)
  intro w hw
  simp only [List.mem_cons, List.not_mem_nil, or_false] at hw
  rcases hw with e | e | e | e
  · rw [e]; exact h1
  · rw [e]; exact h2
  · rw [e]; exact h3
  · rw [e]; exact h4
/-- what a static call asks: va_cwS n hts (lw_S ..) -/
theorem lw_S {own : String} {idx : Nat} {y : MethodName} {b : ByteArray} {L : Nat} {r : Option FieldType} (h1 : Cond.methodLink own idx y ∈ lw_all) (h2 : Cond.static y ∈ lw_all) (h3 : Cond.initialized y.cls ∈ lw_all) (h4 : Cond.code y b L r ∈ lw_all) : GoodIn lw_all (va_wsS own idx y (ws_ y b L r)) := by
  refine lw_app ?_ (lw_meth h4)
  intro w hw
  simp only [List.mem_cons, List.not_mem_nil, or_false] at hw
  rcases hw with e | e | e
  · rw [e]; exact h1
  · rw [e]; exact h2
  · rw [e]; exact h3
/-- the words of a contract for a method WITH HANDLERS (hh: its table) -/
abbrev wsW_ (y : MethodName) (b : ByteArray) (L : Nat) (r : Option FieldType) (hh : List (Nat × Nat × Nat × Nat)) : List Cond := Cond.codeWith y b L r hh :: lw_all
theorem lw_methW {y : MethodName} {b : ByteArray} {L : Nat} {r : Option FieldType} {hh : List (Nat × Nat × Nat × Nat)} (h : Cond.codeWith y b L r hh ∈ lw_all) : GoodIn lw_all (wsW_ y b L r hh) := by
  intro w hw
  rcases List.mem_cons.mp hw with e | e
  · rw [e]
    exact lw_self _ h
  · exact lw_self _ e
/-- any list of words by their places (lw_in), good -/
theorem lw_good {ws : List Cond} (h : ∀ w ∈ ws, w ∈ lw_all) : GoodIn lw_all ws := fun w hw => lw_self w (h w hw)
/-- what a call of a method with handlers asks: vx_cwVW n hts (lw_VW ..), vx_cwSW n hts (lw_SW ..) -/
theorem lw_VW {own : String} {idx : Nat} {C : String} {y : MethodName} {b : ByteArray} {L : Nat} {r : Option FieldType} {hh : List (Nat × Nat × Nat × Nat)} (h1 : Cond.methodLink own idx y ∈ lw_all) (h2 : Cond.instanceMethod y ∈ lw_all) (h3 : Cond.selects C y y ∈ lw_all) (h4 : Cond.initialized C ∈ lw_all) (h5 : Cond.codeWith y b L r hh ∈ lw_all) : GoodIn lw_all (wsV own idx C y (wsW_ y b L r hh)) := by
  refine lw_app ?_ (lw_methW h5)
  intro w hw
  simp only [List.mem_cons, List.not_mem_nil, or_false] at hw
  rcases hw with e | e | e | e
  · rw [e]; exact h1
  · rw [e]; exact h2
  · rw [e]; exact h3
  · rw [e]; exact h4
theorem lw_SW {own : String} {idx : Nat} {y : MethodName} {b : ByteArray} {L : Nat} {r : Option FieldType} {hh : List (Nat × Nat × Nat × Nat)} (h1 : Cond.methodLink own idx y ∈ lw_all) (h2 : Cond.static y ∈ lw_all) (h3 : Cond.initialized y.cls ∈ lw_all) (h4 : Cond.codeWith y b L r hh ∈ lw_all) : GoodIn lw_all (va_wsS own idx y (wsW_ y b L r hh)) := by
  refine lw_app ?_ (lw_methW h4)
  intro w hw
  simp only [List.mem_cons, List.not_mem_nil, or_false] at hw
  rcases hw with e | e | e
  · rw [e]; exact h1
  · rw [e]; exact h2
  · rw [e]; exact h3
/-- a word by its place in its run of the tables -/
theorem lw_at {r : List Cond} (hr : ∀ w ∈ r, w ∈ lw_tbl) {w : Cond} (i : Nat) (h : r[i]? = some w) : w ∈ lw_tbl := hr w (List.mem_of_getElem? h)
theorem lw_g {w : Cond} (h : w ∈ lw_tbl) (g : goodWord w = true) : w ∈ lw_all := List.mem_filter.mpr ⟨h, g⟩
theorem lw_ms : ∀ w ∈ k2_sels lw_privs, w ∈ lw_tbl := fun w h => show w ∈ k2_sels lw_privs ++ tables_1 from List.mem_append_left _ h
theorem lw_m1 : ∀ w ∈ tables_1_1, w ∈ lw_tbl := fun w h => show w ∈ k2_sels lw_privs ++ tables_1 from List.mem_append_right (k2_sels lw_privs) (show w ∈ tables_1 from List.mem_append_left _ h)
theorem lw_m2 : ∀ w ∈ tables_1_2, w ∈ lw_tbl := fun w h => show w ∈ k2_sels lw_privs ++ tables_1 from List.mem_append_right (k2_sels lw_privs) (show w ∈ tables_1 from List.mem_append_right _ h)
theorem qs0 : (Cond.selects "OptimisticSim" ⟨"OptimisticSim", "newEvent", "(IIII)I"⟩ ⟨"OptimisticSim", "newEvent", "(IIII)I"⟩) ∈ lw_all := lw_g (lw_at lw_ms 0 rfl) rfl
theorem qs1 : (Cond.selects "OptimisticSim" ⟨"OptimisticSim", "arrive", "(I)V"⟩ ⟨"OptimisticSim", "arrive", "(I)V"⟩) ∈ lw_all := lw_g (lw_at lw_ms 1 rfl) rfl
theorem qs2 : (Cond.selects "OptimisticSim" ⟨"OptimisticSim", "goBack", "(I)V"⟩ ⟨"OptimisticSim", "goBack", "(I)V"⟩) ∈ lw_all := lw_g (lw_at lw_ms 2 rfl) rfl
theorem qs3 : (Cond.selects "OptimisticSim" ⟨"OptimisticSim", "lastOf", "(I)I"⟩ ⟨"OptimisticSim", "lastOf", "(I)I"⟩) ∈ lw_all := lw_g (lw_at lw_ms 3 rfl) rfl
theorem qs4 : (Cond.selects "OptimisticSim" ⟨"OptimisticSim", "sooner", "(II)Z"⟩ ⟨"OptimisticSim", "sooner", "(II)Z"⟩) ∈ lw_all := lw_g (lw_at lw_ms 4 rfl) rfl
theorem qs5 : (Cond.selects "OptimisticSim" ⟨"OptimisticSim", "undo", "(I)V"⟩ ⟨"OptimisticSim", "undo", "(I)V"⟩) ∈ lw_all := lw_g (lw_at lw_ms 5 rfl) rfl
theorem qs6 : (Cond.selects "OptimisticSim" ⟨"OptimisticSim", "callBack", "()V"⟩ ⟨"OptimisticSim", "callBack", "()V"⟩) ∈ lw_all := lw_g (lw_at lw_ms 6 rfl) rfl
theorem qs7 : (Cond.selects "OptimisticSim" ⟨"OptimisticSim", "nextOf", "(I)I"⟩ ⟨"OptimisticSim", "nextOf", "(I)I"⟩) ∈ lw_all := lw_g (lw_at lw_ms 7 rfl) rfl
theorem qs8 : (Cond.selects "OptimisticSim" ⟨"OptimisticSim", "handle", "(I)V"⟩ ⟨"OptimisticSim", "handle", "(I)V"⟩) ∈ lw_all := lw_g (lw_at lw_ms 8 rfl) rfl
theorem qs9 : (Cond.selects "OptimisticSim" ⟨"OptimisticSim", "reach", "(I)V"⟩ ⟨"OptimisticSim", "reach", "(I)V"⟩) ∈ lw_all := lw_g (lw_at lw_ms 9 rfl) rfl
theorem qs10 : (Cond.selects "OptimisticSim" ⟨"OptimisticSim", "earliest", "(I)I"⟩ ⟨"OptimisticSim", "earliest", "(I)I"⟩) ∈ lw_all := lw_g (lw_at lw_ms 10 rfl) rfl
theorem qs11 : (Cond.selects "OptimisticSim" ⟨"OptimisticSim", "stateAt", "(II)I"⟩ ⟨"OptimisticSim", "stateAt", "(II)I"⟩) ∈ lw_all := lw_g (lw_at lw_ms 11 rfl) rfl
theorem qs12 : (Cond.selects "OptimisticSim" ⟨"OptimisticSim", "countUpTo", "(II)I"⟩ ⟨"OptimisticSim", "countUpTo", "(II)I"⟩) ∈ lw_all := lw_g (lw_at lw_ms 12 rfl) rfl
theorem qs13 : (Cond.selects "OptimisticSim" ⟨"OptimisticSim", "badTime", "(I)Z"⟩ ⟨"OptimisticSim", "badTime", "(I)Z"⟩) ∈ lw_all := lw_g (lw_at lw_ms 13 rfl) rfl
theorem qs14 : (Cond.selects "OptimisticSimModel" ⟨"OptimisticSimModel", "bad", "(I)Z"⟩ ⟨"OptimisticSimModel", "bad", "(I)Z"⟩) ∈ lw_all := lw_g (lw_at lw_ms 14 rfl) rfl
theorem qs15 : (Cond.selects "OptimisticSimModel" ⟨"OptimisticSimModel", "put", "(IIII)V"⟩ ⟨"OptimisticSimModel", "put", "(IIII)V"⟩) ∈ lw_all := lw_g (lw_at lw_ms 15 rfl) rfl
theorem qs16 : (Cond.selects "OptimisticSimModel" ⟨"OptimisticSimModel", "simulate", "(I)V"⟩ ⟨"OptimisticSimModel", "simulate", "(I)V"⟩) ∈ lw_all := lw_g (lw_at lw_ms 16 rfl) rfl
theorem qs17 : (Cond.selects "OptimisticSimModel" ⟨"OptimisticSimModel", "next", "()I"⟩ ⟨"OptimisticSimModel", "next", "()I"⟩) ∈ lw_all := lw_g (lw_at lw_ms 17 rfl) rfl
theorem qs18 : (Cond.selects "OptimisticSimModel" ⟨"OptimisticSimModel", "before", "(II)Z"⟩ ⟨"OptimisticSimModel", "before", "(II)Z"⟩) ∈ lw_all := lw_g (lw_at lw_ms 18 rfl) rfl
theorem qs19 : (Cond.selects "OptimisticSimModel" ⟨"OptimisticSimModel", "handle", "(I)V"⟩ ⟨"OptimisticSimModel", "handle", "(I)V"⟩) ∈ lw_all := lw_g (lw_at lw_ms 19 rfl) rfl
theorem qs20 : (Cond.selects "OptimisticSimModel" ⟨"OptimisticSimModel", "all", "()I"⟩ ⟨"OptimisticSimModel", "all", "()I"⟩) ∈ lw_all := lw_g (lw_at lw_ms 20 rfl) rfl
theorem qs21 : (Cond.selects "OptimisticSimModel" ⟨"OptimisticSimModel", "askable", "(I)Z"⟩ ⟨"OptimisticSimModel", "askable", "(I)Z"⟩) ∈ lw_all := lw_g (lw_at lw_ms 21 rfl) rfl
end
section
set_option maxRecDepth 100000
/-! OptimisticSim -/
def RX0 : String := "OptimisticSim"
def TX0 : u_T := fun k => match k with
  | 0 => ("OptimisticSim", "target", "[I", true)
  | 1 => ("OptimisticSim", "delay", "[I", true)
  | 2 => ("OptimisticSim", "mask", "[I", true)
  | 3 => ("OptimisticSim", "injected", "I", false)
  | 4 => ("OptimisticSim", "line", "I", false)
  | 5 => ("OptimisticSim", "used", "[Z", true)
  | 6 => ("OptimisticSim", "timeOf", "[I", true)
  | 7 => ("OptimisticSim", "processOf", "[I", true)
  | 8 => ("OptimisticSim", "valueOf", "[I", true)
  | 9 => ("OptimisticSim", "lifeOf", "[I", true)
  | 10 => ("OptimisticSim", "done", "[Z", true)
  | 11 => ("OptimisticSim", "before", "[I", true)
  | 12 => ("OptimisticSim", "sent", "[I", true)
  | 13 => ("OptimisticSim", "now", "[I", true)
  | 14 => ("OptimisticSim", "foldedState", "[I", true)
  | 15 => ("OptimisticSim", "foldedCount", "[I", true)
  | 16 => ("OptimisticSim", "foldedLast", "I", false)
  | 17 => ("OptimisticSim", "recalled", "[I", true)
  | _ => ("OptimisticSim", "recalls", "I", false)
def tyX0 : Nat → FieldType := fun k => match k with
  | 0 => .array .int
  | 1 => .array .int
  | 2 => .array .int
  | 3 => .int
  | 4 => .int
  | 5 => .array .boolean
  | 6 => .array .int
  | 7 => .array .int
  | 8 => .array .int
  | 9 => .array .int
  | 10 => .array .boolean
  | 11 => .array .int
  | 12 => .array .int
  | 13 => .array .int
  | 14 => .array .int
  | 15 => .array .int
  | 16 => .int
  | 17 => .array .int
  | _ => .int
abbrev wsX00 : List Cond := u_ws RX0 TX0 19
set_option maxRecDepth 100000 in
theorem nmX0 : ∀ a, a < 19 → ∀ b, b < 19 → a ≠ b → (TX0 a).2.1 ≠ (TX0 b).2.1 := by decide +kernel
set_option maxRecDepth 100000 in
theorem tyX0_ok : ∀ k, k < 19 → parseFieldDescriptor (TX0 k).2.2.1 = some (tyX0 k) := by decide +kernel
abbrev cX0_init : ByteArray := prog_1_method_1_code
def yX0_init : MethodName := ⟨RX0, "<init>", "()V"⟩
abbrev cX0_clear : ByteArray := prog_1_method_20_code
def yX0_clear : MethodName := ⟨RX0, "clear", "()V"⟩
abbrev cX0_rule : ByteArray := prog_1_method_3_code
def yX0_rule : MethodName := ⟨RX0, "rule", "(IIII)I"⟩
abbrev cX0_badProcess : ByteArray := prog_1_method_2_code
def yX0_badProcess : MethodName := ⟨RX0, "badProcess", "(I)Z"⟩
abbrev cX0_inject : ByteArray := prog_1_method_13_code
def yX0_inject : MethodName := ⟨RX0, "inject", "(III)I"⟩
abbrev cX0_newEvent : ByteArray := prog_1_method_7_code
def yX0_newEvent : MethodName := ⟨RX0, "newEvent", "(IIII)I"⟩
abbrev cX0_arrive : ByteArray := prog_1_method_11_code
def yX0_arrive : MethodName := ⟨RX0, "arrive", "(I)V"⟩
abbrev cX0_goBack : ByteArray := prog_1_method_9_code
def yX0_goBack : MethodName := ⟨RX0, "goBack", "(I)V"⟩
abbrev cX0_lastOf : ByteArray := prog_1_method_6_code
def yX0_lastOf : MethodName := ⟨RX0, "lastOf", "(I)I"⟩
abbrev cX0_sooner : ByteArray := prog_1_method_4_code
def yX0_sooner : MethodName := ⟨RX0, "sooner", "(II)Z"⟩
abbrev cX0_undo : ByteArray := prog_1_method_8_code
def yX0_undo : MethodName := ⟨RX0, "undo", "(I)V"⟩
abbrev cX0_callBack : ByteArray := prog_1_method_10_code
def yX0_callBack : MethodName := ⟨RX0, "callBack", "()V"⟩
abbrev cX0_work : ByteArray := prog_1_method_14_code
def yX0_work : MethodName := ⟨RX0, "work", "(II)I"⟩
abbrev cX0_nextOf : ByteArray := prog_1_method_5_code
def yX0_nextOf : MethodName := ⟨RX0, "nextOf", "(I)I"⟩
abbrev cX0_handle : ByteArray := prog_1_method_12_code
def yX0_handle : MethodName := ⟨RX0, "handle", "(I)V"⟩
abbrev cX0_commit : ByteArray := prog_1_method_19_code
def yX0_commit : MethodName := ⟨RX0, "commit", "(I)I"⟩
abbrev cX0_reach : ByteArray := prog_1_method_16_code
def yX0_reach : MethodName := ⟨RX0, "reach", "(I)V"⟩
abbrev cX0_earliest : ByteArray := prog_1_method_15_code
def yX0_earliest : MethodName := ⟨RX0, "earliest", "(I)I"⟩
abbrev cX0_stateAt : ByteArray := prog_1_method_18_code
def yX0_stateAt : MethodName := ⟨RX0, "stateAt", "(II)I"⟩
abbrev cX0_countUpTo : ByteArray := prog_1_method_17_code
def yX0_countUpTo : MethodName := ⟨RX0, "countUpTo", "(II)I"⟩
abbrev cX0_state : ByteArray := prog_1_method_22_code
def yX0_state : MethodName := ⟨RX0, "state", "(II)I"⟩
abbrev cX0_badTime : ByteArray := prog_1_method_21_code
def yX0_badTime : MethodName := ⟨RX0, "badTime", "(I)Z"⟩
abbrev cX0_handled : ByteArray := prog_1_method_23_code
def yX0_handled : MethodName := ⟨RX0, "handled", "(II)I"⟩
abbrev cX0_lastTime : ByteArray := prog_1_method_24_code
def yX0_lastTime : MethodName := ⟨RX0, "lastTime", "()I"⟩
abbrev cX0_events : ByteArray := prog_1_method_25_code
def yX0_events : MethodName := ⟨RX0, "events", "()I"⟩
abbrev cX0_horizon : ByteArray := prog_1_method_26_code
def yX0_horizon : MethodName := ⟨RX0, "horizon", "()I"⟩
theorem q23 : (Jvm.Cond.initialized "OptimisticSim") ∈ lw_all := lw_g (lw_at lw_m1 1 rfl) rfl
theorem q26 : (Jvm.Cond.instantiable "OptimisticSim" (19 : Nat)) ∈ lw_all := lw_g (lw_at lw_m1 4 rfl) rfl
theorem q28 : (Jvm.Cond.instanceMethod ({ cls := "OptimisticSim", name := "<init>", desc := "()V" } : Jvm.MethodName)) ∈ lw_all := lw_g (lw_at lw_m1 6 rfl) rfl
theorem q29 : (Jvm.Cond.code ({ cls := "OptimisticSim", name := "<init>", desc := "()V" } : Jvm.MethodName) prog_1_method_1_code (2 : Nat) (Option.none : Option Jvm.ClassFile.FieldType)) ∈ lw_all := lw_g (lw_at lw_m1 7 rfl) rfl
theorem q30 : (Jvm.Cond.methodLink "OptimisticSim" (1 : Nat) ({ cls := "java/lang/Object", name := "<init>", desc := "()V" } : Jvm.MethodName)) ∈ lw_all := lw_g (lw_at lw_m1 8 rfl) rfl
theorem q33 : (Jvm.Cond.methodLink "OptimisticSim" (56 : Nat) ({ cls := "OptimisticSim", name := "clear", desc := "()V" } : Jvm.MethodName)) ∈ lw_all := lw_g (lw_at lw_m1 11 rfl) rfl
theorem q34 : (Jvm.Cond.instanceMethod ({ cls := "OptimisticSim", name := "clear", desc := "()V" } : Jvm.MethodName)) ∈ lw_all := lw_g (lw_at lw_m1 12 rfl) rfl
theorem q35 : (Jvm.Cond.selects "OptimisticSim" ({ cls := "OptimisticSim", name := "clear", desc := "()V" } : Jvm.MethodName) ({ cls := "OptimisticSim", name := "clear", desc := "()V" } : Jvm.MethodName)) ∈ lw_all := lw_g (lw_at lw_m1 13 rfl) rfl
theorem q36 : (Jvm.Cond.code ({ cls := "OptimisticSim", name := "clear", desc := "()V" } : Jvm.MethodName) prog_1_method_20_code (2 : Nat) (Option.none : Option Jvm.ClassFile.FieldType)) ∈ lw_all := lw_g (lw_at lw_m1 14 rfl) rfl
theorem q37 : (Jvm.Cond.fieldLink "OptimisticSim" (7 : Nat) "OptimisticSim" "target" "[I") ∈ lw_all := lw_g (lw_at lw_m1 15 rfl) rfl
theorem q38 : (Jvm.Cond.fieldLink "OptimisticSim" (13 : Nat) "OptimisticSim" "delay" "[I") ∈ lw_all := lw_g (lw_at lw_m1 16 rfl) rfl
theorem q39 : (Jvm.Cond.fieldLink "OptimisticSim" (16 : Nat) "OptimisticSim" "mask" "[I") ∈ lw_all := lw_g (lw_at lw_m1 17 rfl) rfl
theorem q40 : (Jvm.Cond.fieldLink "OptimisticSim" (63 : Nat) "OptimisticSim" "injected" "I") ∈ lw_all := lw_g (lw_at lw_m1 18 rfl) rfl
theorem q41 : (Jvm.Cond.fieldLink "OptimisticSim" (95 : Nat) "OptimisticSim" "line" "I") ∈ lw_all := lw_g (lw_at lw_m1 19 rfl) rfl
theorem q42 : (Jvm.Cond.fieldLink "OptimisticSim" (19 : Nat) "OptimisticSim" "used" "[Z") ∈ lw_all := lw_g (lw_at lw_m1 20 rfl) rfl
theorem q43 : (Jvm.Cond.fieldLink "OptimisticSim" (23 : Nat) "OptimisticSim" "timeOf" "[I") ∈ lw_all := lw_g (lw_at lw_m1 21 rfl) rfl
theorem q44 : (Jvm.Cond.fieldLink "OptimisticSim" (26 : Nat) "OptimisticSim" "processOf" "[I") ∈ lw_all := lw_g (lw_at lw_m1 22 rfl) rfl
theorem q45 : (Jvm.Cond.fieldLink "OptimisticSim" (29 : Nat) "OptimisticSim" "valueOf" "[I") ∈ lw_all := lw_g (lw_at lw_m1 23 rfl) rfl
theorem q46 : (Jvm.Cond.fieldLink "OptimisticSim" (32 : Nat) "OptimisticSim" "lifeOf" "[I") ∈ lw_all := lw_g (lw_at lw_m1 24 rfl) rfl
theorem q47 : (Jvm.Cond.fieldLink "OptimisticSim" (35 : Nat) "OptimisticSim" "done" "[Z") ∈ lw_all := lw_g (lw_at lw_m1 25 rfl) rfl
theorem q48 : (Jvm.Cond.fieldLink "OptimisticSim" (38 : Nat) "OptimisticSim" "before" "[I") ∈ lw_all := lw_g (lw_at lw_m1 26 rfl) rfl
theorem q49 : (Jvm.Cond.fieldLink "OptimisticSim" (41 : Nat) "OptimisticSim" "sent" "[I") ∈ lw_all := lw_g (lw_at lw_m1 27 rfl) rfl
theorem q50 : (Jvm.Cond.fieldLink "OptimisticSim" (44 : Nat) "OptimisticSim" "now" "[I") ∈ lw_all := lw_g (lw_at lw_m1 28 rfl) rfl
theorem q51 : (Jvm.Cond.fieldLink "OptimisticSim" (47 : Nat) "OptimisticSim" "foldedState" "[I") ∈ lw_all := lw_g (lw_at lw_m1 29 rfl) rfl
theorem q52 : (Jvm.Cond.fieldLink "OptimisticSim" (50 : Nat) "OptimisticSim" "foldedCount" "[I") ∈ lw_all := lw_g (lw_at lw_m1 30 rfl) rfl
theorem q53 : (Jvm.Cond.fieldLink "OptimisticSim" (117 : Nat) "OptimisticSim" "foldedLast" "I") ∈ lw_all := lw_g (lw_at lw_m1 31 rfl) rfl
theorem q54 : (Jvm.Cond.fieldLink "OptimisticSim" (53 : Nat) "OptimisticSim" "recalled" "[I") ∈ lw_all := lw_g (lw_at lw_m1 32 rfl) rfl
theorem q55 : (Jvm.Cond.fieldLink "OptimisticSim" (71 : Nat) "OptimisticSim" "recalls" "I") ∈ lw_all := lw_g (lw_at lw_m1 33 rfl) rfl
theorem q56 : (Jvm.Cond.laysFinal "OptimisticSim" "OptimisticSim" "target" "[I") ∈ lw_all := lw_g (lw_at lw_m1 34 rfl) rfl
theorem q57 : (Jvm.Cond.soleField "OptimisticSim" "target") ∈ lw_all := lw_g (lw_at lw_m1 35 rfl) rfl
theorem q58 : (Jvm.Cond.laysFinal "OptimisticSim" "OptimisticSim" "delay" "[I") ∈ lw_all := lw_g (lw_at lw_m1 36 rfl) rfl
theorem q59 : (Jvm.Cond.soleField "OptimisticSim" "delay") ∈ lw_all := lw_g (lw_at lw_m1 37 rfl) rfl
theorem q60 : (Jvm.Cond.laysFinal "OptimisticSim" "OptimisticSim" "mask" "[I") ∈ lw_all := lw_g (lw_at lw_m1 38 rfl) rfl
theorem q61 : (Jvm.Cond.soleField "OptimisticSim" "mask") ∈ lw_all := lw_g (lw_at lw_m1 39 rfl) rfl
theorem q62 : (Jvm.Cond.lays "OptimisticSim" "OptimisticSim" "injected" "I") ∈ lw_all := lw_g (lw_at lw_m1 40 rfl) rfl
theorem q63 : (Jvm.Cond.soleField "OptimisticSim" "injected") ∈ lw_all := lw_g (lw_at lw_m1 41 rfl) rfl
theorem q64 : (Jvm.Cond.lays "OptimisticSim" "OptimisticSim" "line" "I") ∈ lw_all := lw_g (lw_at lw_m1 42 rfl) rfl
theorem q65 : (Jvm.Cond.soleField "OptimisticSim" "line") ∈ lw_all := lw_g (lw_at lw_m1 43 rfl) rfl
theorem q66 : (Jvm.Cond.laysFinal "OptimisticSim" "OptimisticSim" "used" "[Z") ∈ lw_all := lw_g (lw_at lw_m1 44 rfl) rfl
theorem q67 : (Jvm.Cond.soleField "OptimisticSim" "used") ∈ lw_all := lw_g (lw_at lw_m1 45 rfl) rfl
theorem q68 : (Jvm.Cond.laysFinal "OptimisticSim" "OptimisticSim" "timeOf" "[I") ∈ lw_all := lw_g (lw_at lw_m1 46 rfl) rfl
theorem q69 : (Jvm.Cond.soleField "OptimisticSim" "timeOf") ∈ lw_all := lw_g (lw_at lw_m1 47 rfl) rfl
theorem q70 : (Jvm.Cond.laysFinal "OptimisticSim" "OptimisticSim" "processOf" "[I") ∈ lw_all := lw_g (lw_at lw_m1 48 rfl) rfl
theorem q71 : (Jvm.Cond.soleField "OptimisticSim" "processOf") ∈ lw_all := lw_g (lw_at lw_m1 49 rfl) rfl
theorem q72 : (Jvm.Cond.laysFinal "OptimisticSim" "OptimisticSim" "valueOf" "[I") ∈ lw_all := lw_g (lw_at lw_m1 50 rfl) rfl
theorem q73 : (Jvm.Cond.soleField "OptimisticSim" "valueOf") ∈ lw_all := lw_g (lw_at lw_m1 51 rfl) rfl
theorem q74 : (Jvm.Cond.laysFinal "OptimisticSim" "OptimisticSim" "lifeOf" "[I") ∈ lw_all := lw_g (lw_at lw_m1 52 rfl) rfl
theorem q75 : (Jvm.Cond.soleField "OptimisticSim" "lifeOf") ∈ lw_all := lw_g (lw_at lw_m1 53 rfl) rfl
theorem q76 : (Jvm.Cond.laysFinal "OptimisticSim" "OptimisticSim" "done" "[Z") ∈ lw_all := lw_g (lw_at lw_m1 54 rfl) rfl
theorem q77 : (Jvm.Cond.soleField "OptimisticSim" "done") ∈ lw_all := lw_g (lw_at lw_m1 55 rfl) rfl
theorem q78 : (Jvm.Cond.laysFinal "OptimisticSim" "OptimisticSim" "before" "[I") ∈ lw_all := lw_g (lw_at lw_m1 56 rfl) rfl
theorem q79 : (Jvm.Cond.soleField "OptimisticSim" "before") ∈ lw_all := lw_g (lw_at lw_m1 57 rfl) rfl
theorem q80 : (Jvm.Cond.laysFinal "OptimisticSim" "OptimisticSim" "sent" "[I") ∈ lw_all := lw_g (lw_at lw_m1 58 rfl) rfl
theorem q81 : (Jvm.Cond.soleField "OptimisticSim" "sent") ∈ lw_all := lw_g (lw_at lw_m1 59 rfl) rfl
theorem q82 : (Jvm.Cond.laysFinal "OptimisticSim" "OptimisticSim" "now" "[I") ∈ lw_all := lw_g (lw_at lw_m1 60 rfl) rfl
theorem q83 : (Jvm.Cond.soleField "OptimisticSim" "now") ∈ lw_all := lw_g (lw_at lw_m1 61 rfl) rfl
theorem q84 : (Jvm.Cond.laysFinal "OptimisticSim" "OptimisticSim" "foldedState" "[I") ∈ lw_all := lw_g (lw_at lw_m1 62 rfl) rfl
theorem q85 : (Jvm.Cond.soleField "OptimisticSim" "foldedState") ∈ lw_all := lw_g (lw_at lw_m1 63 rfl) rfl
theorem q86 : (Jvm.Cond.laysFinal "OptimisticSim" "OptimisticSim" "foldedCount" "[I") ∈ lw_all := lw_g (lw_at lw_m1 64 rfl) rfl
theorem q87 : (Jvm.Cond.soleField "OptimisticSim" "foldedCount") ∈ lw_all := lw_g (lw_at lw_m1 65 rfl) rfl
theorem q88 : (Jvm.Cond.lays "OptimisticSim" "OptimisticSim" "foldedLast" "I") ∈ lw_all := lw_g (lw_at lw_m1 66 rfl) rfl
theorem q89 : (Jvm.Cond.soleField "OptimisticSim" "foldedLast") ∈ lw_all := lw_g (lw_at lw_m1 67 rfl) rfl
theorem q90 : (Jvm.Cond.laysFinal "OptimisticSim" "OptimisticSim" "recalled" "[I") ∈ lw_all := lw_g (lw_at lw_m1 68 rfl) rfl
theorem q91 : (Jvm.Cond.soleField "OptimisticSim" "recalled") ∈ lw_all := lw_g (lw_at lw_m1 69 rfl) rfl
theorem q92 : (Jvm.Cond.lays "OptimisticSim" "OptimisticSim" "recalls" "I") ∈ lw_all := lw_g (lw_at lw_m1 70 rfl) rfl
theorem q93 : (Jvm.Cond.soleField "OptimisticSim" "recalls") ∈ lw_all := lw_g (lw_at lw_m1 71 rfl) rfl
theorem q94 : (Jvm.Cond.superclass "OptimisticSim" "java/lang/Object") ∈ lw_all := lw_g (lw_at lw_m1 72 rfl) rfl
theorem q98 : (Jvm.Cond.instanceMethod ({ cls := "OptimisticSim", name := "rule", desc := "(IIII)I" } : Jvm.MethodName)) ∈ lw_all := lw_g (lw_at lw_m1 76 rfl) rfl
theorem q99 : (Jvm.Cond.selects "OptimisticSim" ({ cls := "OptimisticSim", name := "rule", desc := "(IIII)I" } : Jvm.MethodName) ({ cls := "OptimisticSim", name := "rule", desc := "(IIII)I" } : Jvm.MethodName)) ∈ lw_all := lw_g (lw_at lw_m1 77 rfl) rfl
theorem q100 : (Jvm.Cond.code ({ cls := "OptimisticSim", name := "rule", desc := "(IIII)I" } : Jvm.MethodName) prog_1_method_3_code (5 : Nat) (Option.some Jvm.ClassFile.FieldType.int)) ∈ lw_all := lw_g (lw_at lw_m1 78 rfl) rfl
theorem q101 : (Jvm.Cond.methodLink "OptimisticSim" (59 : Nat) ({ cls := "OptimisticSim", name := "badProcess", desc := "(I)Z" } : Jvm.MethodName)) ∈ lw_all := lw_g (lw_at lw_m1 79 rfl) rfl
theorem q102 : (Jvm.Cond.static ({ cls := "OptimisticSim", name := "badProcess", desc := "(I)Z" } : Jvm.MethodName)) ∈ lw_all := lw_g (lw_at lw_m1 80 rfl) rfl
theorem q103 : (Jvm.Cond.code ({ cls := "OptimisticSim", name := "badProcess", desc := "(I)Z" } : Jvm.MethodName) prog_1_method_2_code (1 : Nat) (Option.some Jvm.ClassFile.FieldType.boolean)) ∈ lw_all := lw_g (lw_at lw_m1 81 rfl) rfl
theorem q105 : (Jvm.Cond.instanceMethod ({ cls := "OptimisticSim", name := "inject", desc := "(III)I" } : Jvm.MethodName)) ∈ lw_all := lw_g (lw_at lw_m1 83 rfl) rfl
theorem q106 : (Jvm.Cond.selects "OptimisticSim" ({ cls := "OptimisticSim", name := "inject", desc := "(III)I" } : Jvm.MethodName) ({ cls := "OptimisticSim", name := "inject", desc := "(III)I" } : Jvm.MethodName)) ∈ lw_all := lw_g (lw_at lw_m1 84 rfl) rfl
theorem q107 : (Jvm.Cond.code ({ cls := "OptimisticSim", name := "inject", desc := "(III)I" } : Jvm.MethodName) prog_1_method_13_code (5 : Nat) (Option.some Jvm.ClassFile.FieldType.int)) ∈ lw_all := lw_g (lw_at lw_m1 85 rfl) rfl
theorem q108 : (Jvm.Cond.methodLink "OptimisticSim" (88 : Nat) ({ cls := "OptimisticSim", name := "newEvent", desc := "(IIII)I" } : Jvm.MethodName)) ∈ lw_all := lw_g (lw_at lw_m1 86 rfl) rfl
theorem q109 : (Jvm.Cond.privateMethod ({ cls := "OptimisticSim", name := "newEvent", desc := "(IIII)I" } : Jvm.MethodName)) ∈ lw_tbl := lw_at lw_m1 87 rfl
theorem q110 : (Jvm.Cond.instanceMethod ({ cls := "OptimisticSim", name := "newEvent", desc := "(IIII)I" } : Jvm.MethodName)) ∈ lw_all := lw_g (lw_at lw_m1 88 rfl) rfl
theorem q111 : (Jvm.Cond.code ({ cls := "OptimisticSim", name := "newEvent", desc := "(IIII)I" } : Jvm.MethodName) prog_1_method_7_code (6 : Nat) (Option.some Jvm.ClassFile.FieldType.int)) ∈ lw_all := lw_g (lw_at lw_m1 89 rfl) rfl
theorem q112 : (Jvm.Cond.methodLink "OptimisticSim" (92 : Nat) ({ cls := "OptimisticSim", name := "arrive", desc := "(I)V" } : Jvm.MethodName)) ∈ lw_all := lw_g (lw_at lw_m1 90 rfl) rfl
theorem q113 : (Jvm.Cond.privateMethod ({ cls := "OptimisticSim", name := "arrive", desc := "(I)V" } : Jvm.MethodName)) ∈ lw_tbl := lw_at lw_m1 91 rfl
theorem q114 : (Jvm.Cond.instanceMethod ({ cls := "OptimisticSim", name := "arrive", desc := "(I)V" } : Jvm.MethodName)) ∈ lw_all := lw_g (lw_at lw_m1 92 rfl) rfl
theorem q115 : (Jvm.Cond.code ({ cls := "OptimisticSim", name := "arrive", desc := "(I)V" } : Jvm.MethodName) prog_1_method_11_code (2 : Nat) (Option.none : Option Jvm.ClassFile.FieldType)) ∈ lw_all := lw_g (lw_at lw_m1 93 rfl) rfl
theorem q116 : (Jvm.Cond.methodLink "OptimisticSim" (82 : Nat) ({ cls := "OptimisticSim", name := "goBack", desc := "(I)V" } : Jvm.MethodName)) ∈ lw_all := lw_g (lw_at lw_m1 94 rfl) rfl
theorem q117 : (Jvm.Cond.privateMethod ({ cls := "OptimisticSim", name := "goBack", desc := "(I)V" } : Jvm.MethodName)) ∈ lw_tbl := lw_at lw_m1 95 rfl
theorem q118 : (Jvm.Cond.instanceMethod ({ cls := "OptimisticSim", name := "goBack", desc := "(I)V" } : Jvm.MethodName)) ∈ lw_all := lw_g (lw_at lw_m1 96 rfl) rfl
theorem q119 : (Jvm.Cond.code ({ cls := "OptimisticSim", name := "goBack", desc := "(I)V" } : Jvm.MethodName) prog_1_method_9_code (5 : Nat) (Option.none : Option Jvm.ClassFile.FieldType)) ∈ lw_all := lw_g (lw_at lw_m1 97 rfl) rfl
theorem q120 : (Jvm.Cond.methodLink "OptimisticSim" (74 : Nat) ({ cls := "OptimisticSim", name := "lastOf", desc := "(I)I" } : Jvm.MethodName)) ∈ lw_all := lw_g (lw_at lw_m1 98 rfl) rfl
theorem q121 : (Jvm.Cond.privateMethod ({ cls := "OptimisticSim", name := "lastOf", desc := "(I)I" } : Jvm.MethodName)) ∈ lw_tbl := lw_at lw_m1 99 rfl
theorem q122 : (Jvm.Cond.instanceMethod ({ cls := "OptimisticSim", name := "lastOf", desc := "(I)I" } : Jvm.MethodName)) ∈ lw_all := lw_g (lw_at lw_m1 100 rfl) rfl
theorem q123 : (Jvm.Cond.code ({ cls := "OptimisticSim", name := "lastOf", desc := "(I)I" } : Jvm.MethodName) prog_1_method_6_code (4 : Nat) (Option.some Jvm.ClassFile.FieldType.int)) ∈ lw_all := lw_g (lw_at lw_m1 101 rfl) rfl
theorem q124 : (Jvm.Cond.methodLink "OptimisticSim" (67 : Nat) ({ cls := "OptimisticSim", name := "sooner", desc := "(II)Z" } : Jvm.MethodName)) ∈ lw_all := lw_g (lw_at lw_m1 102 rfl) rfl
theorem q125 : (Jvm.Cond.privateMethod ({ cls := "OptimisticSim", name := "sooner", desc := "(II)Z" } : Jvm.MethodName)) ∈ lw_tbl := lw_at lw_m1 103 rfl
theorem q126 : (Jvm.Cond.instanceMethod ({ cls := "OptimisticSim", name := "sooner", desc := "(II)Z" } : Jvm.MethodName)) ∈ lw_all := lw_g (lw_at lw_m1 104 rfl) rfl
theorem q127 : (Jvm.Cond.code ({ cls := "OptimisticSim", name := "sooner", desc := "(II)Z" } : Jvm.MethodName) prog_1_method_4_code (3 : Nat) (Option.some Jvm.ClassFile.FieldType.boolean)) ∈ lw_all := lw_g (lw_at lw_m1 105 rfl) rfl
theorem q128 : (Jvm.Cond.methodLink "OptimisticSim" (78 : Nat) ({ cls := "OptimisticSim", name := "undo", desc := "(I)V" } : Jvm.MethodName)) ∈ lw_all := lw_g (lw_at lw_m1 106 rfl) rfl
theorem q129 : (Jvm.Cond.privateMethod ({ cls := "OptimisticSim", name := "undo", desc := "(I)V" } : Jvm.MethodName)) ∈ lw_tbl := lw_at lw_m1 107 rfl
theorem q130 : (Jvm.Cond.instanceMethod ({ cls := "OptimisticSim", name := "undo", desc := "(I)V" } : Jvm.MethodName)) ∈ lw_all := lw_g (lw_at lw_m1 108 rfl) rfl
theorem q131 : (Jvm.Cond.code ({ cls := "OptimisticSim", name := "undo", desc := "(I)V" } : Jvm.MethodName) prog_1_method_8_code (2 : Nat) (Option.none : Option Jvm.ClassFile.FieldType)) ∈ lw_all := lw_g (lw_at lw_m1 109 rfl) rfl
theorem q132 : (Jvm.Cond.methodLink "OptimisticSim" (85 : Nat) ({ cls := "OptimisticSim", name := "callBack", desc := "()V" } : Jvm.MethodName)) ∈ lw_all := lw_g (lw_at lw_m1 110 rfl) rfl
theorem q133 : (Jvm.Cond.privateMethod ({ cls := "OptimisticSim", name := "callBack", desc := "()V" } : Jvm.MethodName)) ∈ lw_tbl := lw_at lw_m1 111 rfl
theorem q134 : (Jvm.Cond.instanceMethod ({ cls := "OptimisticSim", name := "callBack", desc := "()V" } : Jvm.MethodName)) ∈ lw_all := lw_g (lw_at lw_m1 112 rfl) rfl
theorem q135 : (Jvm.Cond.code ({ cls := "OptimisticSim", name := "callBack", desc := "()V" } : Jvm.MethodName) prog_1_method_10_code (2 : Nat) (Option.none : Option Jvm.ClassFile.FieldType)) ∈ lw_all := lw_g (lw_at lw_m1 113 rfl) rfl
theorem q137 : (Jvm.Cond.instanceMethod ({ cls := "OptimisticSim", name := "work", desc := "(II)I" } : Jvm.MethodName)) ∈ lw_all := lw_g (lw_at lw_m1 115 rfl) rfl
theorem q138 : (Jvm.Cond.selects "OptimisticSim" ({ cls := "OptimisticSim", name := "work", desc := "(II)I" } : Jvm.MethodName) ({ cls := "OptimisticSim", name := "work", desc := "(II)I" } : Jvm.MethodName)) ∈ lw_all := lw_g (lw_at lw_m1 116 rfl) rfl
theorem q139 : (Jvm.Cond.code ({ cls := "OptimisticSim", name := "work", desc := "(II)I" } : Jvm.MethodName) prog_1_method_14_code (5 : Nat) (Option.some Jvm.ClassFile.FieldType.int)) ∈ lw_all := lw_g (lw_at lw_m1 117 rfl) rfl
theorem q140 : (Jvm.Cond.methodLink "OptimisticSim" (98 : Nat) ({ cls := "OptimisticSim", name := "nextOf", desc := "(I)I" } : Jvm.MethodName)) ∈ lw_all := lw_g (lw_at lw_m1 118 rfl) rfl
theorem q141 : (Jvm.Cond.privateMethod ({ cls := "OptimisticSim", name := "nextOf", desc := "(I)I" } : Jvm.MethodName)) ∈ lw_tbl := lw_at lw_m1 119 rfl
theorem q142 : (Jvm.Cond.instanceMethod ({ cls := "OptimisticSim", name := "nextOf", desc := "(I)I" } : Jvm.MethodName)) ∈ lw_all := lw_g (lw_at lw_m1 120 rfl) rfl
theorem q143 : (Jvm.Cond.code ({ cls := "OptimisticSim", name := "nextOf", desc := "(I)I" } : Jvm.MethodName) prog_1_method_5_code (4 : Nat) (Option.some Jvm.ClassFile.FieldType.int)) ∈ lw_all := lw_g (lw_at lw_m1 121 rfl) rfl
theorem q144 : (Jvm.Cond.methodLink "OptimisticSim" (101 : Nat) ({ cls := "OptimisticSim", name := "handle", desc := "(I)V" } : Jvm.MethodName)) ∈ lw_all := lw_g (lw_at lw_m1 122 rfl) rfl
theorem q145 : (Jvm.Cond.privateMethod ({ cls := "OptimisticSim", name := "handle", desc := "(I)V" } : Jvm.MethodName)) ∈ lw_tbl := lw_at lw_m1 123 rfl
theorem q146 : (Jvm.Cond.instanceMethod ({ cls := "OptimisticSim", name := "handle", desc := "(I)V" } : Jvm.MethodName)) ∈ lw_all := lw_g (lw_at lw_m1 124 rfl) rfl
theorem q147 : (Jvm.Cond.code ({ cls := "OptimisticSim", name := "handle", desc := "(I)V" } : Jvm.MethodName) prog_1_method_12_code (4 : Nat) (Option.none : Option Jvm.ClassFile.FieldType)) ∈ lw_all := lw_g (lw_at lw_m1 125 rfl) rfl
theorem q149 : (Jvm.Cond.instanceMethod ({ cls := "OptimisticSim", name := "commit", desc := "(I)I" } : Jvm.MethodName)) ∈ lw_all := lw_g (lw_at lw_m1 127 rfl) rfl
theorem q150 : (Jvm.Cond.selects "OptimisticSim" ({ cls := "OptimisticSim", name := "commit", desc := "(I)I" } : Jvm.MethodName) ({ cls := "OptimisticSim", name := "commit", desc := "(I)I" } : Jvm.MethodName)) ∈ lw_all := lw_g (lw_at lw_m1 128 rfl) rfl
theorem q151 : (Jvm.Cond.code ({ cls := "OptimisticSim", name := "commit", desc := "(I)I" } : Jvm.MethodName) prog_1_method_19_code (4 : Nat) (Option.some Jvm.ClassFile.FieldType.int)) ∈ lw_all := lw_g (lw_at lw_m1 129 rfl) rfl
theorem q152 : (Jvm.Cond.methodLink "OptimisticSim" (107 : Nat) ({ cls := "OptimisticSim", name := "reach", desc := "(I)V" } : Jvm.MethodName)) ∈ lw_all := lw_g (lw_at lw_m1 130 rfl) rfl
theorem q153 : (Jvm.Cond.privateMethod ({ cls := "OptimisticSim", name := "reach", desc := "(I)V" } : Jvm.MethodName)) ∈ lw_tbl := lw_at lw_m1 131 rfl
theorem q154 : (Jvm.Cond.instanceMethod ({ cls := "OptimisticSim", name := "reach", desc := "(I)V" } : Jvm.MethodName)) ∈ lw_all := lw_g (lw_at lw_m1 132 rfl) rfl
theorem q155 : (Jvm.Cond.code ({ cls := "OptimisticSim", name := "reach", desc := "(I)V" } : Jvm.MethodName) prog_1_method_16_code (4 : Nat) (Option.none : Option Jvm.ClassFile.FieldType)) ∈ lw_all := lw_g (lw_at lw_m1 133 rfl) rfl
theorem q156 : (Jvm.Cond.methodLink "OptimisticSim" (104 : Nat) ({ cls := "OptimisticSim", name := "earliest", desc := "(I)I" } : Jvm.MethodName)) ∈ lw_all := lw_g (lw_at lw_m1 134 rfl) rfl
theorem q157 : (Jvm.Cond.privateMethod ({ cls := "OptimisticSim", name := "earliest", desc := "(I)I" } : Jvm.MethodName)) ∈ lw_tbl := lw_at lw_m1 135 rfl
theorem q158 : (Jvm.Cond.instanceMethod ({ cls := "OptimisticSim", name := "earliest", desc := "(I)I" } : Jvm.MethodName)) ∈ lw_all := lw_g (lw_at lw_m1 136 rfl) rfl
theorem q159 : (Jvm.Cond.code ({ cls := "OptimisticSim", name := "earliest", desc := "(I)I" } : Jvm.MethodName) prog_1_method_15_code (5 : Nat) (Option.some Jvm.ClassFile.FieldType.int)) ∈ lw_all := lw_g (lw_at lw_m1 137 rfl) rfl
theorem q160 : (Jvm.Cond.methodLink "OptimisticSim" (110 : Nat) ({ cls := "OptimisticSim", name := "stateAt", desc := "(II)I" } : Jvm.MethodName)) ∈ lw_all := lw_g (lw_at lw_m1 138 rfl) rfl
theorem q161 : (Jvm.Cond.privateMethod ({ cls := "OptimisticSim", name := "stateAt", desc := "(II)I" } : Jvm.MethodName)) ∈ lw_tbl := lw_at lw_m1 139 rfl
theorem q162 : (Jvm.Cond.instanceMethod ({ cls := "OptimisticSim", name := "stateAt", desc := "(II)I" } : Jvm.MethodName)) ∈ lw_all := lw_g (lw_at lw_m1 140 rfl) rfl
theorem q163 : (Jvm.Cond.code ({ cls := "OptimisticSim", name := "stateAt", desc := "(II)I" } : Jvm.MethodName) prog_1_method_18_code (5 : Nat) (Option.some Jvm.ClassFile.FieldType.int)) ∈ lw_all := lw_g (lw_at lw_m1 141 rfl) rfl
theorem q164 : (Jvm.Cond.methodLink "OptimisticSim" (114 : Nat) ({ cls := "OptimisticSim", name := "countUpTo", desc := "(II)I" } : Jvm.MethodName)) ∈ lw_all := lw_g (lw_at lw_m1 142 rfl) rfl
theorem q165 : (Jvm.Cond.privateMethod ({ cls := "OptimisticSim", name := "countUpTo", desc := "(II)I" } : Jvm.MethodName)) ∈ lw_tbl := lw_at lw_m1 143 rfl
theorem q166 : (Jvm.Cond.instanceMethod ({ cls := "OptimisticSim", name := "countUpTo", desc := "(II)I" } : Jvm.MethodName)) ∈ lw_all := lw_g (lw_at lw_m1 144 rfl) rfl
theorem q167 : (Jvm.Cond.code ({ cls := "OptimisticSim", name := "countUpTo", desc := "(II)I" } : Jvm.MethodName) prog_1_method_17_code (5 : Nat) (Option.some Jvm.ClassFile.FieldType.int)) ∈ lw_all := lw_g (lw_at lw_m1 145 rfl) rfl
theorem q170 : (Jvm.Cond.instanceMethod ({ cls := "OptimisticSim", name := "state", desc := "(II)I" } : Jvm.MethodName)) ∈ lw_all := lw_g (lw_at lw_m1 148 rfl) rfl
theorem q171 : (Jvm.Cond.selects "OptimisticSim" ({ cls := "OptimisticSim", name := "state", desc := "(II)I" } : Jvm.MethodName) ({ cls := "OptimisticSim", name := "state", desc := "(II)I" } : Jvm.MethodName)) ∈ lw_all := lw_g (lw_at lw_m1 149 rfl) rfl
theorem q172 : (Jvm.Cond.code ({ cls := "OptimisticSim", name := "state", desc := "(II)I" } : Jvm.MethodName) prog_1_method_22_code (3 : Nat) (Option.some Jvm.ClassFile.FieldType.int)) ∈ lw_all := lw_g (lw_at lw_m1 150 rfl) rfl
theorem q173 : (Jvm.Cond.methodLink "OptimisticSim" (120 : Nat) ({ cls := "OptimisticSim", name := "badTime", desc := "(I)Z" } : Jvm.MethodName)) ∈ lw_all := lw_g (lw_at lw_m1 151 rfl) rfl
theorem q174 : (Jvm.Cond.privateMethod ({ cls := "OptimisticSim", name := "badTime", desc := "(I)Z" } : Jvm.MethodName)) ∈ lw_tbl := lw_at lw_m1 152 rfl
theorem q175 : (Jvm.Cond.instanceMethod ({ cls := "OptimisticSim", name := "badTime", desc := "(I)Z" } : Jvm.MethodName)) ∈ lw_all := lw_g (lw_at lw_m1 153 rfl) rfl
theorem q176 : (Jvm.Cond.code ({ cls := "OptimisticSim", name := "badTime", desc := "(I)Z" } : Jvm.MethodName) prog_1_method_21_code (2 : Nat) (Option.some Jvm.ClassFile.FieldType.boolean)) ∈ lw_all := lw_g (lw_at lw_m1 154 rfl) rfl
theorem q178 : (Jvm.Cond.instanceMethod ({ cls := "OptimisticSim", name := "handled", desc := "(II)I" } : Jvm.MethodName)) ∈ lw_all := lw_g (lw_at lw_m1 156 rfl) rfl
theorem q179 : (Jvm.Cond.selects "OptimisticSim" ({ cls := "OptimisticSim", name := "handled", desc := "(II)I" } : Jvm.MethodName) ({ cls := "OptimisticSim", name := "handled", desc := "(II)I" } : Jvm.MethodName)) ∈ lw_all := lw_g (lw_at lw_m1 157 rfl) rfl
theorem q180 : (Jvm.Cond.code ({ cls := "OptimisticSim", name := "handled", desc := "(II)I" } : Jvm.MethodName) prog_1_method_23_code (3 : Nat) (Option.some Jvm.ClassFile.FieldType.int)) ∈ lw_all := lw_g (lw_at lw_m1 158 rfl) rfl
theorem q182 : (Jvm.Cond.instanceMethod ({ cls := "OptimisticSim", name := "lastTime", desc := "()I" } : Jvm.MethodName)) ∈ lw_all := lw_g (lw_at lw_m1 160 rfl) rfl
theorem q183 : (Jvm.Cond.selects "OptimisticSim" ({ cls := "OptimisticSim", name := "lastTime", desc := "()I" } : Jvm.MethodName) ({ cls := "OptimisticSim", name := "lastTime", desc := "()I" } : Jvm.MethodName)) ∈ lw_all := lw_g (lw_at lw_m1 161 rfl) rfl
theorem q184 : (Jvm.Cond.code ({ cls := "OptimisticSim", name := "lastTime", desc := "()I" } : Jvm.MethodName) prog_1_method_24_code (3 : Nat) (Option.some Jvm.ClassFile.FieldType.int)) ∈ lw_all := lw_g (lw_at lw_m1 162 rfl) rfl
theorem q186 : (Jvm.Cond.instanceMethod ({ cls := "OptimisticSim", name := "events", desc := "()I" } : Jvm.MethodName)) ∈ lw_all := lw_g (lw_at lw_m1 164 rfl) rfl
theorem q187 : (Jvm.Cond.selects "OptimisticSim" ({ cls := "OptimisticSim", name := "events", desc := "()I" } : Jvm.MethodName) ({ cls := "OptimisticSim", name := "events", desc := "()I" } : Jvm.MethodName)) ∈ lw_all := lw_g (lw_at lw_m1 165 rfl) rfl
theorem q188 : (Jvm.Cond.code ({ cls := "OptimisticSim", name := "events", desc := "()I" } : Jvm.MethodName) prog_1_method_25_code (3 : Nat) (Option.some Jvm.ClassFile.FieldType.int)) ∈ lw_all := lw_g (lw_at lw_m1 166 rfl) rfl
theorem q190 : (Jvm.Cond.instanceMethod ({ cls := "OptimisticSim", name := "horizon", desc := "()I" } : Jvm.MethodName)) ∈ lw_all := lw_g (lw_at lw_m1 168 rfl) rfl
theorem q191 : (Jvm.Cond.selects "OptimisticSim" ({ cls := "OptimisticSim", name := "horizon", desc := "()I" } : Jvm.MethodName) ({ cls := "OptimisticSim", name := "horizon", desc := "()I" } : Jvm.MethodName)) ∈ lw_all := lw_g (lw_at lw_m1 169 rfl) rfl
theorem q192 : (Jvm.Cond.code ({ cls := "OptimisticSim", name := "horizon", desc := "()I" } : Jvm.MethodName) prog_1_method_26_code (1 : Nat) (Option.some Jvm.ClassFile.FieldType.int)) ∈ lw_all := lw_g (lw_at lw_m1 170 rfl) rfl
theorem in_X0 : ∀ w ∈ wsX00, w ∈ lw_all := lw_in wsX00 [56, 58, 60, 62, 64, 66, 68, 70, 72, 74, 76, 78, 80, 82, 84, 86, 88, 90, 92] (by decide +kernel) (by decide +kernel)
/-! OptimisticSimModel -/
def RX1 : String := "OptimisticSimModel"
def TX1 : u_T := fun k => match k with
  | 0 => ("OptimisticSimModel", "targets", "[I", true)
  | 1 => ("OptimisticSimModel", "delays", "[I", true)
  | 2 => ("OptimisticSimModel", "masks", "[I", true)
  | 3 => ("OptimisticSimModel", "injected", "I", false)
  | 4 => ("OptimisticSimModel", "horizon", "I", false)
  | 5 => ("OptimisticSimModel", "count", "I", false)
  | 6 => ("OptimisticSimModel", "times", "[I", true)
  | 7 => ("OptimisticSimModel", "processes", "[I", true)
  | 8 => ("OptimisticSimModel", "values", "[I", true)
  | 9 => ("OptimisticSimModel", "lives", "[I", true)
  | 10 => ("OptimisticSimModel", "done", "[Z", true)
  | 11 => ("OptimisticSimModel", "states", "[I", true)
  | 12 => ("OptimisticSimModel", "handledBy", "[I", true)
  | _ => ("OptimisticSimModel", "last", "I", false)
def tyX1 : Nat → FieldType := fun k => match k with
  | 0 => .array .int
  | 1 => .array .int
  | 2 => .array .int
  | 3 => .int
  | 4 => .int
  | 5 => .int
  | 6 => .array .int
  | 7 => .array .int
  | 8 => .array .int
  | 9 => .array .int
  | 10 => .array .boolean
  | 11 => .array .int
  | 12 => .array .int
  | _ => .int
abbrev wsX10 : List Cond := u_ws RX1 TX1 14
set_option maxRecDepth 100000 in
theorem nmX1 : ∀ a, a < 14 → ∀ b, b < 14 → a ≠ b → (TX1 a).2.1 ≠ (TX1 b).2.1 := by decide +kernel
set_option maxRecDepth 100000 in
theorem tyX1_ok : ∀ k, k < 14 → parseFieldDescriptor (TX1 k).2.2.1 = some (tyX1 k) := by decide +kernel
abbrev cX1_init : ByteArray := prog_3_method_1_code
def yX1_init : MethodName := ⟨RX1, "<init>", "()V"⟩
abbrev cX1_rule : ByteArray := prog_3_method_3_code
def yX1_rule : MethodName := ⟨RX1, "rule", "(IIII)I"⟩
abbrev cX1_bad : ByteArray := prog_3_method_2_code
def yX1_bad : MethodName := ⟨RX1, "bad", "(I)Z"⟩
abbrev cX1_inject : ByteArray := prog_3_method_4_code
def yX1_inject : MethodName := ⟨RX1, "inject", "(III)I"⟩
abbrev cX1_put : ByteArray := prog_3_method_5_code
def yX1_put : MethodName := ⟨RX1, "put", "(IIII)V"⟩
abbrev cX1_work : ByteArray := prog_3_method_10_code
def yX1_work : MethodName := ⟨RX1, "work", "(II)I"⟩
abbrev cX1_commit : ByteArray := prog_3_method_12_code
def yX1_commit : MethodName := ⟨RX1, "commit", "(I)I"⟩
abbrev cX1_simulate : ByteArray := prog_3_method_9_code
def yX1_simulate : MethodName := ⟨RX1, "simulate", "(I)V"⟩
abbrev cX1_next : ByteArray := prog_3_method_7_code
def yX1_next : MethodName := ⟨RX1, "next", "()I"⟩
abbrev cX1_before : ByteArray := prog_3_method_6_code
def yX1_before : MethodName := ⟨RX1, "before", "(II)Z"⟩
abbrev cX1_handle : ByteArray := prog_3_method_8_code
def yX1_handle : MethodName := ⟨RX1, "handle", "(I)V"⟩
abbrev cX1_all : ByteArray := prog_3_method_11_code
def yX1_all : MethodName := ⟨RX1, "all", "()I"⟩
abbrev cX1_clear : ByteArray := prog_3_method_13_code
def yX1_clear : MethodName := ⟨RX1, "clear", "()V"⟩
abbrev cX1_state : ByteArray := prog_3_method_15_code
def yX1_state : MethodName := ⟨RX1, "state", "(II)I"⟩
abbrev cX1_askable : ByteArray := prog_3_method_14_code
def yX1_askable : MethodName := ⟨RX1, "askable", "(I)Z"⟩
abbrev cX1_handled : ByteArray := prog_3_method_16_code
def yX1_handled : MethodName := ⟨RX1, "handled", "(II)I"⟩
abbrev cX1_lastTime : ByteArray := prog_3_method_17_code
def yX1_lastTime : MethodName := ⟨RX1, "lastTime", "()I"⟩
abbrev cX1_events : ByteArray := prog_3_method_18_code
def yX1_events : MethodName := ⟨RX1, "events", "()I"⟩
abbrev cX1_horizon : ByteArray := prog_3_method_19_code
def yX1_horizon : MethodName := ⟨RX1, "horizon", "()I"⟩
theorem q24 : (Jvm.Cond.initialized "OptimisticSimModel") ∈ lw_all := lw_g (lw_at lw_m1 2 rfl) rfl
theorem q194 : (Jvm.Cond.instantiable "OptimisticSimModel" (14 : Nat)) ∈ lw_all := lw_g (lw_at lw_m1 172 rfl) rfl
theorem q196 : (Jvm.Cond.instanceMethod ({ cls := "OptimisticSimModel", name := "<init>", desc := "()V" } : Jvm.MethodName)) ∈ lw_all := lw_g (lw_at lw_m1 174 rfl) rfl
theorem q197 : (Jvm.Cond.code ({ cls := "OptimisticSimModel", name := "<init>", desc := "()V" } : Jvm.MethodName) prog_3_method_1_code (2 : Nat) (Option.none : Option Jvm.ClassFile.FieldType)) ∈ lw_all := lw_g (lw_at lw_m1 175 rfl) rfl
theorem q198 : (Jvm.Cond.methodLink "OptimisticSimModel" (1 : Nat) ({ cls := "java/lang/Object", name := "<init>", desc := "()V" } : Jvm.MethodName)) ∈ lw_all := lw_g (lw_at lw_m1 176 rfl) rfl
theorem q199 : (Jvm.Cond.fieldLink "OptimisticSimModel" (7 : Nat) "OptimisticSimModel" "targets" "[I") ∈ lw_all := lw_g (lw_at lw_m1 177 rfl) rfl
theorem q200 : (Jvm.Cond.fieldLink "OptimisticSimModel" (13 : Nat) "OptimisticSimModel" "delays" "[I") ∈ lw_all := lw_g (lw_at lw_m1 178 rfl) rfl
theorem q201 : (Jvm.Cond.fieldLink "OptimisticSimModel" (16 : Nat) "OptimisticSimModel" "masks" "[I") ∈ lw_all := lw_g (lw_at lw_m1 179 rfl) rfl
theorem q202 : (Jvm.Cond.fieldLink "OptimisticSimModel" (49 : Nat) "OptimisticSimModel" "injected" "I") ∈ lw_all := lw_g (lw_at lw_m1 180 rfl) rfl
theorem q203 : (Jvm.Cond.fieldLink "OptimisticSimModel" (41 : Nat) "OptimisticSimModel" "horizon" "I") ∈ lw_all := lw_g (lw_at lw_m1 181 rfl) rfl
theorem q204 : (Jvm.Cond.fieldLink "OptimisticSimModel" (52 : Nat) "OptimisticSimModel" "count" "I") ∈ lw_all := lw_g (lw_at lw_m1 182 rfl) rfl
theorem q205 : (Jvm.Cond.fieldLink "OptimisticSimModel" (19 : Nat) "OptimisticSimModel" "times" "[I") ∈ lw_all := lw_g (lw_at lw_m1 183 rfl) rfl
theorem q206 : (Jvm.Cond.fieldLink "OptimisticSimModel" (22 : Nat) "OptimisticSimModel" "processes" "[I") ∈ lw_all := lw_g (lw_at lw_m1 184 rfl) rfl
theorem q207 : (Jvm.Cond.fieldLink "OptimisticSimModel" (25 : Nat) "OptimisticSimModel" "values" "[I") ∈ lw_all := lw_g (lw_at lw_m1 185 rfl) rfl
theorem q208 : (Jvm.Cond.fieldLink "OptimisticSimModel" (28 : Nat) "OptimisticSimModel" "lives" "[I") ∈ lw_all := lw_g (lw_at lw_m1 186 rfl) rfl
theorem q209 : (Jvm.Cond.fieldLink "OptimisticSimModel" (31 : Nat) "OptimisticSimModel" "done" "[Z") ∈ lw_all := lw_g (lw_at lw_m1 187 rfl) rfl
theorem q210 : (Jvm.Cond.fieldLink "OptimisticSimModel" (35 : Nat) "OptimisticSimModel" "states" "[I") ∈ lw_all := lw_g (lw_at lw_m1 188 rfl) rfl
theorem q211 : (Jvm.Cond.fieldLink "OptimisticSimModel" (38 : Nat) "OptimisticSimModel" "handledBy" "[I") ∈ lw_all := lw_g (lw_at lw_m1 189 rfl) rfl
theorem q212 : (Jvm.Cond.fieldLink "OptimisticSimModel" (63 : Nat) "OptimisticSimModel" "last" "I") ∈ lw_all := lw_g (lw_at lw_m1 190 rfl) rfl
theorem q213 : (Jvm.Cond.laysFinal "OptimisticSimModel" "OptimisticSimModel" "targets" "[I") ∈ lw_all := lw_g (lw_at lw_m1 191 rfl) rfl
theorem q214 : (Jvm.Cond.soleField "OptimisticSimModel" "targets") ∈ lw_all := lw_g (lw_at lw_m1 192 rfl) rfl
theorem q215 : (Jvm.Cond.laysFinal "OptimisticSimModel" "OptimisticSimModel" "delays" "[I") ∈ lw_all := lw_g (lw_at lw_m1 193 rfl) rfl
theorem q216 : (Jvm.Cond.soleField "OptimisticSimModel" "delays") ∈ lw_all := lw_g (lw_at lw_m1 194 rfl) rfl
theorem q217 : (Jvm.Cond.laysFinal "OptimisticSimModel" "OptimisticSimModel" "masks" "[I") ∈ lw_all := lw_g (lw_at lw_m1 195 rfl) rfl
theorem q218 : (Jvm.Cond.soleField "OptimisticSimModel" "masks") ∈ lw_all := lw_g (lw_at lw_m1 196 rfl) rfl
theorem q219 : (Jvm.Cond.lays "OptimisticSimModel" "OptimisticSimModel" "injected" "I") ∈ lw_all := lw_g (lw_at lw_m1 197 rfl) rfl
theorem q220 : (Jvm.Cond.soleField "OptimisticSimModel" "injected") ∈ lw_all := lw_g (lw_at lw_m1 198 rfl) rfl
theorem q221 : (Jvm.Cond.lays "OptimisticSimModel" "OptimisticSimModel" "horizon" "I") ∈ lw_all := lw_g (lw_at lw_m1 199 rfl) rfl
theorem q222 : (Jvm.Cond.soleField "OptimisticSimModel" "horizon") ∈ lw_all := lw_g (lw_at lw_m1 200 rfl) rfl
theorem q223 : (Jvm.Cond.lays "OptimisticSimModel" "OptimisticSimModel" "count" "I") ∈ lw_all := lw_g (lw_at lw_m1 201 rfl) rfl
theorem q224 : (Jvm.Cond.soleField "OptimisticSimModel" "count") ∈ lw_all := lw_g (lw_at lw_m1 202 rfl) rfl
theorem q225 : (Jvm.Cond.laysFinal "OptimisticSimModel" "OptimisticSimModel" "times" "[I") ∈ lw_all := lw_g (lw_at lw_m1 203 rfl) rfl
theorem q226 : (Jvm.Cond.soleField "OptimisticSimModel" "times") ∈ lw_all := lw_g (lw_at lw_m1 204 rfl) rfl
theorem q227 : (Jvm.Cond.laysFinal "OptimisticSimModel" "OptimisticSimModel" "processes" "[I") ∈ lw_all := lw_g (lw_at lw_m1 205 rfl) rfl
theorem q228 : (Jvm.Cond.soleField "OptimisticSimModel" "processes") ∈ lw_all := lw_g (lw_at lw_m1 206 rfl) rfl
theorem q229 : (Jvm.Cond.laysFinal "OptimisticSimModel" "OptimisticSimModel" "values" "[I") ∈ lw_all := lw_g (lw_at lw_m1 207 rfl) rfl
theorem q230 : (Jvm.Cond.soleField "OptimisticSimModel" "values") ∈ lw_all := lw_g (lw_at lw_m1 208 rfl) rfl
theorem q231 : (Jvm.Cond.laysFinal "OptimisticSimModel" "OptimisticSimModel" "lives" "[I") ∈ lw_all := lw_g (lw_at lw_m1 209 rfl) rfl
theorem q232 : (Jvm.Cond.soleField "OptimisticSimModel" "lives") ∈ lw_all := lw_g (lw_at lw_m1 210 rfl) rfl
theorem q233 : (Jvm.Cond.laysFinal "OptimisticSimModel" "OptimisticSimModel" "done" "[Z") ∈ lw_all := lw_g (lw_at lw_m1 211 rfl) rfl
theorem q234 : (Jvm.Cond.soleField "OptimisticSimModel" "done") ∈ lw_all := lw_g (lw_at lw_m1 212 rfl) rfl
theorem q235 : (Jvm.Cond.laysFinal "OptimisticSimModel" "OptimisticSimModel" "states" "[I") ∈ lw_all := lw_g (lw_at lw_m1 213 rfl) rfl
theorem q236 : (Jvm.Cond.soleField "OptimisticSimModel" "states") ∈ lw_all := lw_g (lw_at lw_m1 214 rfl) rfl
theorem q237 : (Jvm.Cond.laysFinal "OptimisticSimModel" "OptimisticSimModel" "handledBy" "[I") ∈ lw_all := lw_g (lw_at lw_m1 215 rfl) rfl
theorem q238 : (Jvm.Cond.soleField "OptimisticSimModel" "handledBy") ∈ lw_all := lw_g (lw_at lw_m1 216 rfl) rfl
theorem q239 : (Jvm.Cond.lays "OptimisticSimModel" "OptimisticSimModel" "last" "I") ∈ lw_all := lw_g (lw_at lw_m1 217 rfl) rfl
theorem q240 : (Jvm.Cond.soleField "OptimisticSimModel" "last") ∈ lw_all := lw_g (lw_at lw_m1 218 rfl) rfl
theorem q241 : (Jvm.Cond.superclass "OptimisticSimModel" "java/lang/Object") ∈ lw_all := lw_g (lw_at lw_m1 219 rfl) rfl
theorem q243 : (Jvm.Cond.instanceMethod ({ cls := "OptimisticSimModel", name := "rule", desc := "(IIII)I" } : Jvm.MethodName)) ∈ lw_all := lw_g (lw_at lw_m1 221 rfl) rfl
theorem q244 : (Jvm.Cond.selects "OptimisticSimModel" ({ cls := "OptimisticSimModel", name := "rule", desc := "(IIII)I" } : Jvm.MethodName) ({ cls := "OptimisticSimModel", name := "rule", desc := "(IIII)I" } : Jvm.MethodName)) ∈ lw_all := lw_g (lw_at lw_m1 222 rfl) rfl
theorem q245 : (Jvm.Cond.code ({ cls := "OptimisticSimModel", name := "rule", desc := "(IIII)I" } : Jvm.MethodName) prog_3_method_3_code (5 : Nat) (Option.some Jvm.ClassFile.FieldType.int)) ∈ lw_all := lw_g (lw_at lw_m1 223 rfl) rfl
theorem q246 : (Jvm.Cond.methodLink "OptimisticSimModel" (45 : Nat) ({ cls := "OptimisticSimModel", name := "bad", desc := "(I)Z" } : Jvm.MethodName)) ∈ lw_all := lw_g (lw_at lw_m1 224 rfl) rfl
theorem q247 : (Jvm.Cond.privateMethod ({ cls := "OptimisticSimModel", name := "bad", desc := "(I)Z" } : Jvm.MethodName)) ∈ lw_tbl := lw_at lw_m1 225 rfl
theorem q248 : (Jvm.Cond.instanceMethod ({ cls := "OptimisticSimModel", name := "bad", desc := "(I)Z" } : Jvm.MethodName)) ∈ lw_all := lw_g (lw_at lw_m1 226 rfl) rfl
theorem q249 : (Jvm.Cond.code ({ cls := "OptimisticSimModel", name := "bad", desc := "(I)Z" } : Jvm.MethodName) prog_3_method_2_code (2 : Nat) (Option.some Jvm.ClassFile.FieldType.boolean)) ∈ lw_all := lw_g (lw_at lw_m1 227 rfl) rfl
theorem q251 : (Jvm.Cond.instanceMethod ({ cls := "OptimisticSimModel", name := "inject", desc := "(III)I" } : Jvm.MethodName)) ∈ lw_all := lw_g (lw_at lw_m1 229 rfl) rfl
theorem q252 : (Jvm.Cond.selects "OptimisticSimModel" ({ cls := "OptimisticSimModel", name := "inject", desc := "(III)I" } : Jvm.MethodName) ({ cls := "OptimisticSimModel", name := "inject", desc := "(III)I" } : Jvm.MethodName)) ∈ lw_all := lw_g (lw_at lw_m1 230 rfl) rfl
theorem q253 : (Jvm.Cond.code ({ cls := "OptimisticSimModel", name := "inject", desc := "(III)I" } : Jvm.MethodName) prog_3_method_4_code (4 : Nat) (Option.some Jvm.ClassFile.FieldType.int)) ∈ lw_all := lw_g (lw_at lw_m1 231 rfl) rfl
theorem q254 : (Jvm.Cond.methodLink "OptimisticSimModel" (55 : Nat) ({ cls := "OptimisticSimModel", name := "put", desc := "(IIII)V" } : Jvm.MethodName)) ∈ lw_all := lw_g (lw_at lw_m1 232 rfl) rfl
theorem q255 : (Jvm.Cond.privateMethod ({ cls := "OptimisticSimModel", name := "put", desc := "(IIII)V" } : Jvm.MethodName)) ∈ lw_tbl := lw_at lw_m1 233 rfl
theorem q256 : (Jvm.Cond.instanceMethod ({ cls := "OptimisticSimModel", name := "put", desc := "(IIII)V" } : Jvm.MethodName)) ∈ lw_all := lw_g (lw_at lw_m1 234 rfl) rfl
theorem q257 : (Jvm.Cond.code ({ cls := "OptimisticSimModel", name := "put", desc := "(IIII)V" } : Jvm.MethodName) prog_3_method_5_code (5 : Nat) (Option.none : Option Jvm.ClassFile.FieldType)) ∈ lw_all := lw_g (lw_at lw_m1 235 rfl) rfl
theorem q259 : (Jvm.Cond.instanceMethod ({ cls := "OptimisticSimModel", name := "work", desc := "(II)I" } : Jvm.MethodName)) ∈ lw_all := lw_g (lw_at lw_m1 237 rfl) rfl
theorem q260 : (Jvm.Cond.selects "OptimisticSimModel" ({ cls := "OptimisticSimModel", name := "work", desc := "(II)I" } : Jvm.MethodName) ({ cls := "OptimisticSimModel", name := "work", desc := "(II)I" } : Jvm.MethodName)) ∈ lw_all := lw_g (lw_at lw_m1 238 rfl) rfl
theorem q261 : (Jvm.Cond.code ({ cls := "OptimisticSimModel", name := "work", desc := "(II)I" } : Jvm.MethodName) prog_3_method_10_code (3 : Nat) (Option.some Jvm.ClassFile.FieldType.int)) ∈ lw_all := lw_g (lw_at lw_m1 239 rfl) rfl
theorem q263 : (Jvm.Cond.instanceMethod ({ cls := "OptimisticSimModel", name := "commit", desc := "(I)I" } : Jvm.MethodName)) ∈ lw_all := lw_g (lw_at lw_m2 1 rfl) rfl
theorem q264 : (Jvm.Cond.selects "OptimisticSimModel" ({ cls := "OptimisticSimModel", name := "commit", desc := "(I)I" } : Jvm.MethodName) ({ cls := "OptimisticSimModel", name := "commit", desc := "(I)I" } : Jvm.MethodName)) ∈ lw_all := lw_g (lw_at lw_m2 2 rfl) rfl
theorem q265 : (Jvm.Cond.code ({ cls := "OptimisticSimModel", name := "commit", desc := "(I)I" } : Jvm.MethodName) prog_3_method_12_code (2 : Nat) (Option.some Jvm.ClassFile.FieldType.int)) ∈ lw_all := lw_g (lw_at lw_m2 3 rfl) rfl
theorem q266 : (Jvm.Cond.methodLink "OptimisticSimModel" (74 : Nat) ({ cls := "OptimisticSimModel", name := "simulate", desc := "(I)V" } : Jvm.MethodName)) ∈ lw_all := lw_g (lw_at lw_m2 4 rfl) rfl
theorem q267 : (Jvm.Cond.privateMethod ({ cls := "OptimisticSimModel", name := "simulate", desc := "(I)V" } : Jvm.MethodName)) ∈ lw_tbl := lw_at lw_m2 5 rfl
theorem q268 : (Jvm.Cond.instanceMethod ({ cls := "OptimisticSimModel", name := "simulate", desc := "(I)V" } : Jvm.MethodName)) ∈ lw_all := lw_g (lw_at lw_m2 6 rfl) rfl
theorem q269 : (Jvm.Cond.code ({ cls := "OptimisticSimModel", name := "simulate", desc := "(I)V" } : Jvm.MethodName) prog_3_method_9_code (4 : Nat) (Option.none : Option Jvm.ClassFile.FieldType)) ∈ lw_all := lw_g (lw_at lw_m2 7 rfl) rfl
theorem q270 : (Jvm.Cond.methodLink "OptimisticSimModel" (66 : Nat) ({ cls := "OptimisticSimModel", name := "next", desc := "()I" } : Jvm.MethodName)) ∈ lw_all := lw_g (lw_at lw_m2 8 rfl) rfl
theorem q271 : (Jvm.Cond.privateMethod ({ cls := "OptimisticSimModel", name := "next", desc := "()I" } : Jvm.MethodName)) ∈ lw_tbl := lw_at lw_m2 9 rfl
theorem q272 : (Jvm.Cond.instanceMethod ({ cls := "OptimisticSimModel", name := "next", desc := "()I" } : Jvm.MethodName)) ∈ lw_all := lw_g (lw_at lw_m2 10 rfl) rfl
theorem q273 : (Jvm.Cond.code ({ cls := "OptimisticSimModel", name := "next", desc := "()I" } : Jvm.MethodName) prog_3_method_7_code (3 : Nat) (Option.some Jvm.ClassFile.FieldType.int)) ∈ lw_all := lw_g (lw_at lw_m2 11 rfl) rfl
theorem q274 : (Jvm.Cond.methodLink "OptimisticSimModel" (59 : Nat) ({ cls := "OptimisticSimModel", name := "before", desc := "(II)Z" } : Jvm.MethodName)) ∈ lw_all := lw_g (lw_at lw_m2 12 rfl) rfl
theorem q275 : (Jvm.Cond.privateMethod ({ cls := "OptimisticSimModel", name := "before", desc := "(II)Z" } : Jvm.MethodName)) ∈ lw_tbl := lw_at lw_m2 13 rfl
theorem q276 : (Jvm.Cond.instanceMethod ({ cls := "OptimisticSimModel", name := "before", desc := "(II)Z" } : Jvm.MethodName)) ∈ lw_all := lw_g (lw_at lw_m2 14 rfl) rfl
theorem q277 : (Jvm.Cond.code ({ cls := "OptimisticSimModel", name := "before", desc := "(II)Z" } : Jvm.MethodName) prog_3_method_6_code (3 : Nat) (Option.some Jvm.ClassFile.FieldType.boolean)) ∈ lw_all := lw_g (lw_at lw_m2 15 rfl) rfl
theorem q278 : (Jvm.Cond.methodLink "OptimisticSimModel" (70 : Nat) ({ cls := "OptimisticSimModel", name := "handle", desc := "(I)V" } : Jvm.MethodName)) ∈ lw_all := lw_g (lw_at lw_m2 16 rfl) rfl
theorem q279 : (Jvm.Cond.privateMethod ({ cls := "OptimisticSimModel", name := "handle", desc := "(I)V" } : Jvm.MethodName)) ∈ lw_tbl := lw_at lw_m2 17 rfl
theorem q280 : (Jvm.Cond.instanceMethod ({ cls := "OptimisticSimModel", name := "handle", desc := "(I)V" } : Jvm.MethodName)) ∈ lw_all := lw_g (lw_at lw_m2 18 rfl) rfl
theorem q281 : (Jvm.Cond.code ({ cls := "OptimisticSimModel", name := "handle", desc := "(I)V" } : Jvm.MethodName) prog_3_method_8_code (3 : Nat) (Option.none : Option Jvm.ClassFile.FieldType)) ∈ lw_all := lw_g (lw_at lw_m2 19 rfl) rfl
theorem q282 : (Jvm.Cond.methodLink "OptimisticSimModel" (77 : Nat) ({ cls := "OptimisticSimModel", name := "all", desc := "()I" } : Jvm.MethodName)) ∈ lw_all := lw_g (lw_at lw_m2 20 rfl) rfl
theorem q283 : (Jvm.Cond.privateMethod ({ cls := "OptimisticSimModel", name := "all", desc := "()I" } : Jvm.MethodName)) ∈ lw_tbl := lw_at lw_m2 21 rfl
theorem q284 : (Jvm.Cond.instanceMethod ({ cls := "OptimisticSimModel", name := "all", desc := "()I" } : Jvm.MethodName)) ∈ lw_all := lw_g (lw_at lw_m2 22 rfl) rfl
theorem q285 : (Jvm.Cond.code ({ cls := "OptimisticSimModel", name := "all", desc := "()I" } : Jvm.MethodName) prog_3_method_11_code (1 : Nat) (Option.some Jvm.ClassFile.FieldType.int)) ∈ lw_all := lw_g (lw_at lw_m2 23 rfl) rfl
theorem q287 : (Jvm.Cond.instanceMethod ({ cls := "OptimisticSimModel", name := "clear", desc := "()V" } : Jvm.MethodName)) ∈ lw_all := lw_g (lw_at lw_m2 25 rfl) rfl
theorem q288 : (Jvm.Cond.selects "OptimisticSimModel" ({ cls := "OptimisticSimModel", name := "clear", desc := "()V" } : Jvm.MethodName) ({ cls := "OptimisticSimModel", name := "clear", desc := "()V" } : Jvm.MethodName)) ∈ lw_all := lw_g (lw_at lw_m2 26 rfl) rfl
theorem q289 : (Jvm.Cond.code ({ cls := "OptimisticSimModel", name := "clear", desc := "()V" } : Jvm.MethodName) prog_3_method_13_code (1 : Nat) (Option.none : Option Jvm.ClassFile.FieldType)) ∈ lw_all := lw_g (lw_at lw_m2 27 rfl) rfl
theorem q291 : (Jvm.Cond.instanceMethod ({ cls := "OptimisticSimModel", name := "state", desc := "(II)I" } : Jvm.MethodName)) ∈ lw_all := lw_g (lw_at lw_m2 29 rfl) rfl
theorem q292 : (Jvm.Cond.selects "OptimisticSimModel" ({ cls := "OptimisticSimModel", name := "state", desc := "(II)I" } : Jvm.MethodName) ({ cls := "OptimisticSimModel", name := "state", desc := "(II)I" } : Jvm.MethodName)) ∈ lw_all := lw_g (lw_at lw_m2 30 rfl) rfl
theorem q293 : (Jvm.Cond.code ({ cls := "OptimisticSimModel", name := "state", desc := "(II)I" } : Jvm.MethodName) prog_3_method_15_code (3 : Nat) (Option.some Jvm.ClassFile.FieldType.int)) ∈ lw_all := lw_g (lw_at lw_m2 31 rfl) rfl
theorem q294 : (Jvm.Cond.methodLink "OptimisticSimModel" (80 : Nat) ({ cls := "OptimisticSimModel", name := "askable", desc := "(I)Z" } : Jvm.MethodName)) ∈ lw_all := lw_g (lw_at lw_m2 32 rfl) rfl
theorem q295 : (Jvm.Cond.privateMethod ({ cls := "OptimisticSimModel", name := "askable", desc := "(I)Z" } : Jvm.MethodName)) ∈ lw_tbl := lw_at lw_m2 33 rfl
theorem q296 : (Jvm.Cond.instanceMethod ({ cls := "OptimisticSimModel", name := "askable", desc := "(I)Z" } : Jvm.MethodName)) ∈ lw_all := lw_g (lw_at lw_m2 34 rfl) rfl
theorem q297 : (Jvm.Cond.code ({ cls := "OptimisticSimModel", name := "askable", desc := "(I)Z" } : Jvm.MethodName) prog_3_method_14_code (2 : Nat) (Option.some Jvm.ClassFile.FieldType.boolean)) ∈ lw_all := lw_g (lw_at lw_m2 35 rfl) rfl
theorem q299 : (Jvm.Cond.instanceMethod ({ cls := "OptimisticSimModel", name := "handled", desc := "(II)I" } : Jvm.MethodName)) ∈ lw_all := lw_g (lw_at lw_m2 37 rfl) rfl
theorem q300 : (Jvm.Cond.selects "OptimisticSimModel" ({ cls := "OptimisticSimModel", name := "handled", desc := "(II)I" } : Jvm.MethodName) ({ cls := "OptimisticSimModel", name := "handled", desc := "(II)I" } : Jvm.MethodName)) ∈ lw_all := lw_g (lw_at lw_m2 38 rfl) rfl
theorem q301 : (Jvm.Cond.code ({ cls := "OptimisticSimModel", name := "handled", desc := "(II)I" } : Jvm.MethodName) prog_3_method_16_code (3 : Nat) (Option.some Jvm.ClassFile.FieldType.int)) ∈ lw_all := lw_g (lw_at lw_m2 39 rfl) rfl
theorem q303 : (Jvm.Cond.instanceMethod ({ cls := "OptimisticSimModel", name := "lastTime", desc := "()I" } : Jvm.MethodName)) ∈ lw_all := lw_g (lw_at lw_m2 41 rfl) rfl
theorem q304 : (Jvm.Cond.selects "OptimisticSimModel" ({ cls := "OptimisticSimModel", name := "lastTime", desc := "()I" } : Jvm.MethodName) ({ cls := "OptimisticSimModel", name := "lastTime", desc := "()I" } : Jvm.MethodName)) ∈ lw_all := lw_g (lw_at lw_m2 42 rfl) rfl
theorem q305 : (Jvm.Cond.code ({ cls := "OptimisticSimModel", name := "lastTime", desc := "()I" } : Jvm.MethodName) prog_3_method_17_code (1 : Nat) (Option.some Jvm.ClassFile.FieldType.int)) ∈ lw_all := lw_g (lw_at lw_m2 43 rfl) rfl
theorem q307 : (Jvm.Cond.instanceMethod ({ cls := "OptimisticSimModel", name := "events", desc := "()I" } : Jvm.MethodName)) ∈ lw_all := lw_g (lw_at lw_m2 45 rfl) rfl
theorem q308 : (Jvm.Cond.selects "OptimisticSimModel" ({ cls := "OptimisticSimModel", name := "events", desc := "()I" } : Jvm.MethodName) ({ cls := "OptimisticSimModel", name := "events", desc := "()I" } : Jvm.MethodName)) ∈ lw_all := lw_g (lw_at lw_m2 46 rfl) rfl
theorem q309 : (Jvm.Cond.code ({ cls := "OptimisticSimModel", name := "events", desc := "()I" } : Jvm.MethodName) prog_3_method_18_code (1 : Nat) (Option.some Jvm.ClassFile.FieldType.int)) ∈ lw_all := lw_g (lw_at lw_m2 47 rfl) rfl
theorem q311 : (Jvm.Cond.instanceMethod ({ cls := "OptimisticSimModel", name := "horizon", desc := "()I" } : Jvm.MethodName)) ∈ lw_all := lw_g (lw_at lw_m2 49 rfl) rfl
theorem q312 : (Jvm.Cond.selects "OptimisticSimModel" ({ cls := "OptimisticSimModel", name := "horizon", desc := "()I" } : Jvm.MethodName) ({ cls := "OptimisticSimModel", name := "horizon", desc := "()I" } : Jvm.MethodName)) ∈ lw_all := lw_g (lw_at lw_m2 50 rfl) rfl
theorem q313 : (Jvm.Cond.code ({ cls := "OptimisticSimModel", name := "horizon", desc := "()I" } : Jvm.MethodName) prog_3_method_19_code (1 : Nat) (Option.some Jvm.ClassFile.FieldType.int)) ∈ lw_all := lw_g (lw_at lw_m2 51 rfl) rfl
theorem in_X1 : ∀ w ∈ wsX10, w ∈ lw_all := lw_in wsX10 [213, 215, 217, 219, 221, 223, 225, 227, 229, 231, 233, 235, 237, 239] (by decide +kernel) (by decide +kernel)
/-! java/lang/Object -/
def RJ0 : String := "java/lang/Object"
abbrev cJ0_init : ByteArray := object_method_1_code
def yJ0_init : MethodName := ⟨RJ0, "<init>", "()V"⟩
theorem dJ0_init_0 : decode cJ0_init 0 = .ok (.return_, 1) := by decide +kernel
theorem q31 : (Jvm.Cond.instanceMethod ({ cls := "java/lang/Object", name := "<init>", desc := "()V" } : Jvm.MethodName)) ∈ lw_all := lw_g (lw_at lw_m1 9 rfl) rfl
theorem q32 : (Jvm.Cond.code ({ cls := "java/lang/Object", name := "<init>", desc := "()V" } : Jvm.MethodName) object_method_1_code (1 : Nat) (Option.none : Option Jvm.ClassFile.FieldType)) ∈ lw_all := lw_g (lw_at lw_m1 10 rfl) rfl
theorem q22 : (Jvm.Cond.initialized "OptimisticSimLaw") ∈ lw_all := lw_g (lw_at lw_m1 0 rfl) rfl
theorem q25 : (Jvm.Cond.classLink "OptimisticSimLaw" (7 : Nat) "OptimisticSim") ∈ lw_all := lw_g (lw_at lw_m1 3 rfl) rfl
theorem q27 : (Jvm.Cond.methodLink "OptimisticSimLaw" (9 : Nat) ({ cls := "OptimisticSim", name := "<init>", desc := "()V" } : Jvm.MethodName)) ∈ lw_all := lw_g (lw_at lw_m1 5 rfl) rfl
theorem q97 : (Jvm.Cond.methodLink "OptimisticSimLaw" (13 : Nat) ({ cls := "OptimisticSim", name := "rule", desc := "(IIII)I" } : Jvm.MethodName)) ∈ lw_all := lw_g (lw_at lw_m1 75 rfl) rfl
theorem q104 : (Jvm.Cond.methodLink "OptimisticSimLaw" (18 : Nat) ({ cls := "OptimisticSim", name := "inject", desc := "(III)I" } : Jvm.MethodName)) ∈ lw_all := lw_g (lw_at lw_m1 82 rfl) rfl
theorem q136 : (Jvm.Cond.methodLink "OptimisticSimLaw" (23 : Nat) ({ cls := "OptimisticSim", name := "work", desc := "(II)I" } : Jvm.MethodName)) ∈ lw_all := lw_g (lw_at lw_m1 114 rfl) rfl
theorem q148 : (Jvm.Cond.methodLink "OptimisticSimLaw" (28 : Nat) ({ cls := "OptimisticSim", name := "commit", desc := "(I)I" } : Jvm.MethodName)) ∈ lw_all := lw_g (lw_at lw_m1 126 rfl) rfl
theorem q168 : (Jvm.Cond.methodLink "OptimisticSimLaw" (33 : Nat) ({ cls := "OptimisticSim", name := "clear", desc := "()V" } : Jvm.MethodName)) ∈ lw_all := lw_g (lw_at lw_m1 146 rfl) rfl
theorem q169 : (Jvm.Cond.methodLink "OptimisticSimLaw" (37 : Nat) ({ cls := "OptimisticSim", name := "state", desc := "(II)I" } : Jvm.MethodName)) ∈ lw_all := lw_g (lw_at lw_m1 147 rfl) rfl
theorem q177 : (Jvm.Cond.methodLink "OptimisticSimLaw" (41 : Nat) ({ cls := "OptimisticSim", name := "handled", desc := "(II)I" } : Jvm.MethodName)) ∈ lw_all := lw_g (lw_at lw_m1 155 rfl) rfl
theorem q181 : (Jvm.Cond.methodLink "OptimisticSimLaw" (45 : Nat) ({ cls := "OptimisticSim", name := "lastTime", desc := "()I" } : Jvm.MethodName)) ∈ lw_all := lw_g (lw_at lw_m1 159 rfl) rfl
theorem q185 : (Jvm.Cond.methodLink "OptimisticSimLaw" (50 : Nat) ({ cls := "OptimisticSim", name := "events", desc := "()I" } : Jvm.MethodName)) ∈ lw_all := lw_g (lw_at lw_m1 163 rfl) rfl
theorem q189 : (Jvm.Cond.methodLink "OptimisticSimLaw" (54 : Nat) ({ cls := "OptimisticSim", name := "horizon", desc := "()I" } : Jvm.MethodName)) ∈ lw_all := lw_g (lw_at lw_m1 167 rfl) rfl
theorem q193 : (Jvm.Cond.classLink "OptimisticSimLaw" (10 : Nat) "OptimisticSimModel") ∈ lw_all := lw_g (lw_at lw_m1 171 rfl) rfl
theorem q195 : (Jvm.Cond.methodLink "OptimisticSimLaw" (12 : Nat) ({ cls := "OptimisticSimModel", name := "<init>", desc := "()V" } : Jvm.MethodName)) ∈ lw_all := lw_g (lw_at lw_m1 173 rfl) rfl
theorem q242 : (Jvm.Cond.methodLink "OptimisticSimLaw" (17 : Nat) ({ cls := "OptimisticSimModel", name := "rule", desc := "(IIII)I" } : Jvm.MethodName)) ∈ lw_all := lw_g (lw_at lw_m1 220 rfl) rfl
theorem q250 : (Jvm.Cond.methodLink "OptimisticSimLaw" (22 : Nat) ({ cls := "OptimisticSimModel", name := "inject", desc := "(III)I" } : Jvm.MethodName)) ∈ lw_all := lw_g (lw_at lw_m1 228 rfl) rfl
theorem q258 : (Jvm.Cond.methodLink "OptimisticSimLaw" (27 : Nat) ({ cls := "OptimisticSimModel", name := "work", desc := "(II)I" } : Jvm.MethodName)) ∈ lw_all := lw_g (lw_at lw_m1 236 rfl) rfl
theorem q262 : (Jvm.Cond.methodLink "OptimisticSimLaw" (32 : Nat) ({ cls := "OptimisticSimModel", name := "commit", desc := "(I)I" } : Jvm.MethodName)) ∈ lw_all := lw_g (lw_at lw_m2 0 rfl) rfl
theorem q286 : (Jvm.Cond.methodLink "OptimisticSimLaw" (36 : Nat) ({ cls := "OptimisticSimModel", name := "clear", desc := "()V" } : Jvm.MethodName)) ∈ lw_all := lw_g (lw_at lw_m2 24 rfl) rfl
theorem q290 : (Jvm.Cond.methodLink "OptimisticSimLaw" (40 : Nat) ({ cls := "OptimisticSimModel", name := "state", desc := "(II)I" } : Jvm.MethodName)) ∈ lw_all := lw_g (lw_at lw_m2 28 rfl) rfl
theorem q298 : (Jvm.Cond.methodLink "OptimisticSimLaw" (44 : Nat) ({ cls := "OptimisticSimModel", name := "handled", desc := "(II)I" } : Jvm.MethodName)) ∈ lw_all := lw_g (lw_at lw_m2 36 rfl) rfl
theorem q302 : (Jvm.Cond.methodLink "OptimisticSimLaw" (49 : Nat) ({ cls := "OptimisticSimModel", name := "lastTime", desc := "()I" } : Jvm.MethodName)) ∈ lw_all := lw_g (lw_at lw_m2 40 rfl) rfl
theorem q306 : (Jvm.Cond.methodLink "OptimisticSimLaw" (53 : Nat) ({ cls := "OptimisticSimModel", name := "events", desc := "()I" } : Jvm.MethodName)) ∈ lw_all := lw_g (lw_at lw_m2 44 rfl) rfl
theorem q310 : (Jvm.Cond.methodLink "OptimisticSimLaw" (57 : Nat) ({ cls := "OptimisticSimModel", name := "horizon", desc := "()I" } : Jvm.MethodName)) ∈ lw_all := lw_g (lw_at lw_m2 48 rfl) rfl
theorem q95 : (Jvm.Cond.arrayClass Jvm.ClassFile.FieldType.int) ∈ lw_all := lw_g (lw_at lw_m1 73 rfl) rfl
theorem q96 : (Jvm.Cond.arrayClass Jvm.ClassFile.FieldType.boolean) ∈ lw_all := lw_g (lw_at lw_m1 74 rfl) rfl
/-! the law's own entry -/
abbrev cL_law : ByteArray := code
end
section
set_option maxRecDepth 100000
theorem dX0_init_0 : decode cX0_init 0 = .ok (.aload_n 0, 1) := by decide +kernel
theorem dX0_init_1 : decode cX0_init 1 = .ok (.invokespecial 1, 3) := by decide +kernel
theorem dX0_init_4 : decode cX0_init 4 = .ok (.aload_n 0, 1) := by decide +kernel
theorem dX0_init_5 : decode cX0_init 5 = .ok (.iconst 4, 1) := by decide +kernel
theorem dX0_init_6 : decode cX0_init 6 = .ok (.newarray .int, 2) := by decide +kernel
theorem dX0_init_8 : decode cX0_init 8 = .ok (.putfield 7, 3) := by decide +kernel
theorem dX0_init_11 : decode cX0_init 11 = .ok (.aload_n 0, 1) := by decide +kernel
theorem dX0_init_12 : decode cX0_init 12 = .ok (.iconst 4, 1) := by decide +kernel
theorem dX0_init_13 : decode cX0_init 13 = .ok (.newarray .int, 2) := by decide +kernel
theorem dX0_init_15 : decode cX0_init 15 = .ok (.putfield 13, 3) := by decide +kernel
theorem dX0_init_18 : decode cX0_init 18 = .ok (.aload_n 0, 1) := by decide +kernel
theorem dX0_init_19 : decode cX0_init 19 = .ok (.iconst 4, 1) := by decide +kernel
theorem dX0_init_20 : decode cX0_init 20 = .ok (.newarray .int, 2) := by decide +kernel
theorem dX0_init_22 : decode cX0_init 22 = .ok (.putfield 16, 3) := by decide +kernel
theorem dX0_init_25 : decode cX0_init 25 = .ok (.aload_n 0, 1) := by decide +kernel
theorem dX0_init_26 : decode cX0_init 26 = .ok (.bipush 96, 2) := by decide +kernel
theorem dX0_init_28 : decode cX0_init 28 = .ok (.newarray .boolean, 2) := by decide +kernel
theorem dX0_init_30 : decode cX0_init 30 = .ok (.putfield 19, 3) := by decide +kernel
theorem dX0_init_33 : decode cX0_init 33 = .ok (.aload_n 0, 1) := by decide +kernel
theorem dX0_init_34 : decode cX0_init 34 = .ok (.bipush 96, 2) := by decide +kernel
theorem dX0_init_36 : decode cX0_init 36 = .ok (.newarray .int, 2) := by decide +kernel
theorem dX0_init_38 : decode cX0_init 38 = .ok (.putfield 23, 3) := by decide +kernel
theorem dX0_init_41 : decode cX0_init 41 = .ok (.aload_n 0, 1) := by decide +kernel
theorem dX0_init_42 : decode cX0_init 42 = .ok (.bipush 96, 2) := by decide +kernel
theorem dX0_init_44 : decode cX0_init 44 = .ok (.newarray .int, 2) := by decide +kernel
theorem dX0_init_46 : decode cX0_init 46 = .ok (.putfield 26, 3) := by decide +kernel
theorem dX0_init_49 : decode cX0_init 49 = .ok (.aload_n 0, 1) := by decide +kernel
theorem dX0_init_50 : decode cX0_init 50 = .ok (.bipush 96, 2) := by decide +kernel
theorem dX0_init_52 : decode cX0_init 52 = .ok (.newarray .int, 2) := by decide +kernel
theorem dX0_init_54 : decode cX0_init 54 = .ok (.putfield 29, 3) := by decide +kernel
theorem dX0_init_57 : decode cX0_init 57 = .ok (.aload_n 0, 1) := by decide +kernel
theorem dX0_init_58 : decode cX0_init 58 = .ok (.bipush 96, 2) := by decide +kernel
theorem dX0_init_60 : decode cX0_init 60 = .ok (.newarray .int, 2) := by decide +kernel
theorem dX0_init_62 : decode cX0_init 62 = .ok (.putfield 32, 3) := by decide +kernel
theorem dX0_init_65 : decode cX0_init 65 = .ok (.aload_n 0, 1) := by decide +kernel
theorem dX0_init_66 : decode cX0_init 66 = .ok (.bipush 96, 2) := by decide +kernel
theorem dX0_init_68 : decode cX0_init 68 = .ok (.newarray .boolean, 2) := by decide +kernel
theorem dX0_init_70 : decode cX0_init 70 = .ok (.putfield 35, 3) := by decide +kernel
theorem dX0_init_73 : decode cX0_init 73 = .ok (.aload_n 0, 1) := by decide +kernel
theorem dX0_init_74 : decode cX0_init 74 = .ok (.bipush 96, 2) := by decide +kernel
theorem dX0_init_76 : decode cX0_init 76 = .ok (.newarray .int, 2) := by decide +kernel
theorem dX0_init_78 : decode cX0_init 78 = .ok (.putfield 38, 3) := by decide +kernel
theorem dX0_init_81 : decode cX0_init 81 = .ok (.aload_n 0, 1) := by decide +kernel
theorem dX0_init_82 : decode cX0_init 82 = .ok (.bipush 96, 2) := by decide +kernel
theorem dX0_init_84 : decode cX0_init 84 = .ok (.newarray .int, 2) := by decide +kernel
theorem dX0_init_86 : decode cX0_init 86 = .ok (.putfield 41, 3) := by decide +kernel
theorem dX0_init_89 : decode cX0_init 89 = .ok (.aload_n 0, 1) := by decide +kernel
theorem dX0_init_90 : decode cX0_init 90 = .ok (.iconst 4, 1) := by decide +kernel
theorem dX0_init_91 : decode cX0_init 91 = .ok (.newarray .int, 2) := by decide +kernel
theorem dX0_init_93 : decode cX0_init 93 = .ok (.putfield 44, 3) := by decide +kernel
theorem dX0_init_96 : decode cX0_init 96 = .ok (.aload_n 0, 1) := by decide +kernel
theorem dX0_init_97 : decode cX0_init 97 = .ok (.iconst 4, 1) := by decide +kernel
theorem dX0_init_98 : decode cX0_init 98 = .ok (.newarray .int, 2) := by decide +kernel
theorem dX0_init_100 : decode cX0_init 100 = .ok (.putfield 47, 3) := by decide +kernel
theorem dX0_init_103 : decode cX0_init 103 = .ok (.aload_n 0, 1) := by decide +kernel
theorem dX0_init_104 : decode cX0_init 104 = .ok (.iconst 4, 1) := by decide +kernel
theorem dX0_init_105 : decode cX0_init 105 = .ok (.newarray .int, 2) := by decide +kernel
theorem dX0_init_107 : decode cX0_init 107 = .ok (.putfield 50, 3) := by decide +kernel
theorem dX0_init_110 : decode cX0_init 110 = .ok (.aload_n 0, 1) := by decide +kernel
theorem dX0_init_111 : decode cX0_init 111 = .ok (.bipush 96, 2) := by decide +kernel
theorem dX0_init_113 : decode cX0_init 113 = .ok (.newarray .int, 2) := by decide +kernel
theorem dX0_init_115 : decode cX0_init 115 = .ok (.putfield 53, 3) := by decide +kernel
theorem dX0_init_118 : decode cX0_init 118 = .ok (.iconst 0, 1) := by decide +kernel
theorem dX0_init_119 : decode cX0_init 119 = .ok (.istore_n 1, 1) := by decide +kernel
theorem dX0_init_120 : decode cX0_init 120 = .ok (.iload_n 1, 1) := by decide +kernel
theorem dX0_init_121 : decode cX0_init 121 = .ok (.iconst 4, 1) := by decide +kernel
theorem dX0_init_122 : decode cX0_init 122 = .ok (.if_icmp .ge 24, 3) := by decide +kernel
theorem dX0_init_125 : decode cX0_init 125 = .ok (.aload_n 0, 1) := by decide +kernel
theorem dX0_init_126 : decode cX0_init 126 = .ok (.getfield 13, 3) := by decide +kernel
theorem dX0_init_129 : decode cX0_init 129 = .ok (.iload_n 1, 1) := by decide +kernel
theorem dX0_init_130 : decode cX0_init 130 = .ok (.iconst 1, 1) := by decide +kernel
theorem dX0_init_131 : decode cX0_init 131 = .ok (.iastore, 1) := by decide +kernel
theorem dX0_init_132 : decode cX0_init 132 = .ok (.aload_n 0, 1) := by decide +kernel
theorem dX0_init_133 : decode cX0_init 133 = .ok (.getfield 16, 3) := by decide +kernel
theorem dX0_init_136 : decode cX0_init 136 = .ok (.iload_n 1, 1) := by decide +kernel
theorem dX0_init_137 : decode cX0_init 137 = .ok (.bipush 15, 2) := by decide +kernel
theorem dX0_init_139 : decode cX0_init 139 = .ok (.iastore, 1) := by decide +kernel
theorem dX0_init_140 : decode cX0_init 140 = .ok (.iinc 1 1, 3) := by decide +kernel
theorem dX0_init_143 : decode cX0_init 143 = .ok (.goto (-23), 3) := by decide +kernel
theorem dX0_init_146 : decode cX0_init 146 = .ok (.aload_n 0, 1) := by decide +kernel
theorem dX0_init_147 : decode cX0_init 147 = .ok (.invokevirtual 56, 3) := by decide +kernel
theorem dX0_init_150 : decode cX0_init 150 = .ok (.return_, 1) := by decide +kernel
theorem dX0_clear_0 : decode cX0_clear 0 = .ok (.aload_n 0, 1) := by decide +kernel
theorem dX0_clear_1 : decode cX0_clear 1 = .ok (.iconst 0, 1) := by decide +kernel
theorem dX0_clear_2 : decode cX0_clear 2 = .ok (.putfield 63, 3) := by decide +kernel
theorem dX0_clear_5 : decode cX0_clear 5 = .ok (.aload_n 0, 1) := by decide +kernel
theorem dX0_clear_6 : decode cX0_clear 6 = .ok (.iconst (-1), 1) := by decide +kernel
theorem dX0_clear_7 : decode cX0_clear 7 = .ok (.putfield 95, 3) := by decide +kernel
theorem dX0_clear_10 : decode cX0_clear 10 = .ok (.aload_n 0, 1) := by decide +kernel
theorem dX0_clear_11 : decode cX0_clear 11 = .ok (.iconst (-1), 1) := by decide +kernel
theorem dX0_clear_12 : decode cX0_clear 12 = .ok (.putfield 117, 3) := by decide +kernel
theorem dX0_clear_15 : decode cX0_clear 15 = .ok (.aload_n 0, 1) := by decide +kernel
theorem dX0_clear_16 : decode cX0_clear 16 = .ok (.iconst 0, 1) := by decide +kernel
theorem dX0_clear_17 : decode cX0_clear 17 = .ok (.putfield 71, 3) := by decide +kernel
theorem dX0_clear_20 : decode cX0_clear 20 = .ok (.iconst 0, 1) := by decide +kernel
theorem dX0_clear_21 : decode cX0_clear 21 = .ok (.istore_n 1, 1) := by decide +kernel
theorem dX0_clear_22 : decode cX0_clear 22 = .ok (.iload_n 1, 1) := by decide +kernel
theorem dX0_clear_23 : decode cX0_clear 23 = .ok (.bipush 96, 2) := by decide +kernel
theorem dX0_clear_25 : decode cX0_clear 25 = .ok (.if_icmp .ge 16, 3) := by decide +kernel
theorem dX0_clear_28 : decode cX0_clear 28 = .ok (.aload_n 0, 1) := by decide +kernel
theorem dX0_clear_29 : decode cX0_clear 29 = .ok (.getfield 19, 3) := by decide +kernel
theorem dX0_clear_32 : decode cX0_clear 32 = .ok (.iload_n 1, 1) := by decide +kernel
theorem dX0_clear_33 : decode cX0_clear 33 = .ok (.iconst 0, 1) := by decide +kernel
theorem dX0_clear_34 : decode cX0_clear 34 = .ok (.bastore, 1) := by decide +kernel
theorem dX0_clear_35 : decode cX0_clear 35 = .ok (.iinc 1 1, 3) := by decide +kernel
theorem dX0_clear_38 : decode cX0_clear 38 = .ok (.goto (-16), 3) := by decide +kernel
theorem dX0_clear_41 : decode cX0_clear 41 = .ok (.iconst 0, 1) := by decide +kernel
theorem dX0_clear_42 : decode cX0_clear 42 = .ok (.istore_n 1, 1) := by decide +kernel
theorem dX0_clear_43 : decode cX0_clear 43 = .ok (.iload_n 1, 1) := by decide +kernel
theorem dX0_clear_44 : decode cX0_clear 44 = .ok (.iconst 4, 1) := by decide +kernel
theorem dX0_clear_45 : decode cX0_clear 45 = .ok (.if_icmp .ge 30, 3) := by decide +kernel
theorem dX0_clear_48 : decode cX0_clear 48 = .ok (.aload_n 0, 1) := by decide +kernel
theorem dX0_clear_49 : decode cX0_clear 49 = .ok (.getfield 44, 3) := by decide +kernel
theorem dX0_clear_52 : decode cX0_clear 52 = .ok (.iload_n 1, 1) := by decide +kernel
theorem dX0_clear_53 : decode cX0_clear 53 = .ok (.iconst 0, 1) := by decide +kernel
theorem dX0_clear_54 : decode cX0_clear 54 = .ok (.iastore, 1) := by decide +kernel
theorem dX0_clear_55 : decode cX0_clear 55 = .ok (.aload_n 0, 1) := by decide +kernel
theorem dX0_clear_56 : decode cX0_clear 56 = .ok (.getfield 47, 3) := by decide +kernel
theorem dX0_clear_59 : decode cX0_clear 59 = .ok (.iload_n 1, 1) := by decide +kernel
theorem dX0_clear_60 : decode cX0_clear 60 = .ok (.iconst 0, 1) := by decide +kernel
theorem dX0_clear_61 : decode cX0_clear 61 = .ok (.iastore, 1) := by decide +kernel
theorem dX0_clear_62 : decode cX0_clear 62 = .ok (.aload_n 0, 1) := by decide +kernel
theorem dX0_clear_63 : decode cX0_clear 63 = .ok (.getfield 50, 3) := by decide +kernel
theorem dX0_clear_66 : decode cX0_clear 66 = .ok (.iload_n 1, 1) := by decide +kernel
theorem dX0_clear_67 : decode cX0_clear 67 = .ok (.iconst 0, 1) := by decide +kernel
theorem dX0_clear_68 : decode cX0_clear 68 = .ok (.iastore, 1) := by decide +kernel
theorem dX0_clear_69 : decode cX0_clear 69 = .ok (.iinc 1 1, 3) := by decide +kernel
theorem dX0_clear_72 : decode cX0_clear 72 = .ok (.goto (-29), 3) := by decide +kernel
theorem dX0_clear_75 : decode cX0_clear 75 = .ok (.return_, 1) := by decide +kernel
theorem dX0_rule_0 : decode cX0_rule 0 = .ok (.iload_n 1, 1) := by decide +kernel
theorem dX0_rule_1 : decode cX0_rule 1 = .ok (.invokestatic 59, 3) := by decide +kernel
theorem dX0_rule_4 : decode cX0_rule 4 = .ok (.ifCond .ne 10, 3) := by decide +kernel
theorem dX0_rule_7 : decode cX0_rule 7 = .ok (.iload_n 2, 1) := by decide +kernel
theorem dX0_rule_8 : decode cX0_rule 8 = .ok (.invokestatic 59, 3) := by decide +kernel
theorem dX0_rule_11 : decode cX0_rule 11 = .ok (.ifCond .eq 5, 3) := by decide +kernel
theorem dX0_rule_14 : decode cX0_rule 14 = .ok (.iconst (-1), 1) := by decide +kernel
theorem dX0_rule_15 : decode cX0_rule 15 = .ok (.ireturn, 1) := by decide +kernel
theorem dX0_rule_16 : decode cX0_rule 16 = .ok (.iload_n 3, 1) := by decide +kernel
theorem dX0_rule_17 : decode cX0_rule 17 = .ok (.iconst 1, 1) := by decide +kernel
theorem dX0_rule_18 : decode cX0_rule 18 = .ok (.if_icmp .lt 21, 3) := by decide +kernel
theorem dX0_rule_21 : decode cX0_rule 21 = .ok (.iload_n 3, 1) := by decide +kernel
theorem dX0_rule_22 : decode cX0_rule 22 = .ok (.bipush 9, 2) := by decide +kernel
theorem dX0_rule_24 : decode cX0_rule 24 = .ok (.if_icmp .gt 15, 3) := by decide +kernel
theorem dX0_rule_27 : decode cX0_rule 27 = .ok (.iload 4, 2) := by decide +kernel
theorem dX0_rule_29 : decode cX0_rule 29 = .ok (.ifCond .lt 10, 3) := by decide +kernel
theorem dX0_rule_32 : decode cX0_rule 32 = .ok (.iload 4, 2) := by decide +kernel
theorem dX0_rule_34 : decode cX0_rule 34 = .ok (.bipush 15, 2) := by decide +kernel
theorem dX0_rule_36 : decode cX0_rule 36 = .ok (.if_icmp .le 6, 3) := by decide +kernel
theorem dX0_rule_39 : decode cX0_rule 39 = .ok (.bipush (-2), 2) := by decide +kernel
theorem dX0_rule_41 : decode cX0_rule 41 = .ok (.ireturn, 1) := by decide +kernel
theorem dX0_rule_42 : decode cX0_rule 42 = .ok (.aload_n 0, 1) := by decide +kernel
theorem dX0_rule_43 : decode cX0_rule 43 = .ok (.getfield 63, 3) := by decide +kernel
theorem dX0_rule_46 : decode cX0_rule 46 = .ok (.ifCond .le 6, 3) := by decide +kernel
theorem dX0_rule_49 : decode cX0_rule 49 = .ok (.bipush (-5), 2) := by decide +kernel
theorem dX0_rule_51 : decode cX0_rule 51 = .ok (.ireturn, 1) := by decide +kernel
theorem dX0_rule_52 : decode cX0_rule 52 = .ok (.aload_n 0, 1) := by decide +kernel
theorem dX0_rule_53 : decode cX0_rule 53 = .ok (.getfield 7, 3) := by decide +kernel
theorem dX0_rule_56 : decode cX0_rule 56 = .ok (.iload_n 1, 1) := by decide +kernel
theorem dX0_rule_57 : decode cX0_rule 57 = .ok (.iload_n 2, 1) := by decide +kernel
theorem dX0_rule_58 : decode cX0_rule 58 = .ok (.iastore, 1) := by decide +kernel
theorem dX0_rule_59 : decode cX0_rule 59 = .ok (.aload_n 0, 1) := by decide +kernel
theorem dX0_rule_60 : decode cX0_rule 60 = .ok (.getfield 13, 3) := by decide +kernel
theorem dX0_rule_63 : decode cX0_rule 63 = .ok (.iload_n 1, 1) := by decide +kernel
theorem dX0_rule_64 : decode cX0_rule 64 = .ok (.iload_n 3, 1) := by decide +kernel
theorem dX0_rule_65 : decode cX0_rule 65 = .ok (.iastore, 1) := by decide +kernel
theorem dX0_rule_66 : decode cX0_rule 66 = .ok (.aload_n 0, 1) := by decide +kernel
theorem dX0_rule_67 : decode cX0_rule 67 = .ok (.getfield 16, 3) := by decide +kernel
theorem dX0_rule_70 : decode cX0_rule 70 = .ok (.iload_n 1, 1) := by decide +kernel
theorem dX0_rule_71 : decode cX0_rule 71 = .ok (.iload 4, 2) := by decide +kernel
theorem dX0_rule_73 : decode cX0_rule 73 = .ok (.iastore, 1) := by decide +kernel
theorem dX0_rule_74 : decode cX0_rule 74 = .ok (.iconst 0, 1) := by decide +kernel
theorem dX0_rule_75 : decode cX0_rule 75 = .ok (.ireturn, 1) := by decide +kernel
theorem dX0_badProcess_0 : decode cX0_badProcess 0 = .ok (.iload_n 0, 1) := by decide +kernel
theorem dX0_badProcess_1 : decode cX0_badProcess 1 = .ok (.ifCond .lt 8, 3) := by decide +kernel
theorem dX0_badProcess_4 : decode cX0_badProcess 4 = .ok (.iload_n 0, 1) := by decide +kernel
theorem dX0_badProcess_5 : decode cX0_badProcess 5 = .ok (.iconst 4, 1) := by decide +kernel
theorem dX0_badProcess_6 : decode cX0_badProcess 6 = .ok (.if_icmp .lt 7, 3) := by decide +kernel
theorem dX0_badProcess_9 : decode cX0_badProcess 9 = .ok (.iconst 1, 1) := by decide +kernel
theorem dX0_badProcess_10 : decode cX0_badProcess 10 = .ok (.goto 4, 3) := by decide +kernel
theorem dX0_badProcess_13 : decode cX0_badProcess 13 = .ok (.iconst 0, 1) := by decide +kernel
theorem dX0_badProcess_14 : decode cX0_badProcess 14 = .ok (.ireturn, 1) := by decide +kernel
theorem dX0_inject_0 : decode cX0_inject 0 = .ok (.iload_n 1, 1) := by decide +kernel
theorem dX0_inject_1 : decode cX0_inject 1 = .ok (.invokestatic 59, 3) := by decide +kernel
theorem dX0_inject_4 : decode cX0_inject 4 = .ok (.ifCond .eq 5, 3) := by decide +kernel
theorem dX0_inject_7 : decode cX0_inject 7 = .ok (.iconst (-1), 1) := by decide +kernel
theorem dX0_inject_8 : decode cX0_inject 8 = .ok (.ireturn, 1) := by decide +kernel
theorem dX0_inject_9 : decode cX0_inject 9 = .ok (.iload_n 2, 1) := by decide +kernel
theorem dX0_inject_10 : decode cX0_inject 10 = .ok (.ifCond .lt 9, 3) := by decide +kernel
theorem dX0_inject_13 : decode cX0_inject 13 = .ok (.iload_n 2, 1) := by decide +kernel
theorem dX0_inject_14 : decode cX0_inject 14 = .ok (.bipush 99, 2) := by decide +kernel
theorem dX0_inject_16 : decode cX0_inject 16 = .ok (.if_icmp .le 6, 3) := by decide +kernel
theorem dX0_inject_19 : decode cX0_inject 19 = .ok (.bipush (-2), 2) := by decide +kernel
theorem dX0_inject_21 : decode cX0_inject 21 = .ok (.ireturn, 1) := by decide +kernel
theorem dX0_inject_22 : decode cX0_inject 22 = .ok (.iload_n 2, 1) := by decide +kernel
theorem dX0_inject_23 : decode cX0_inject 23 = .ok (.aload_n 0, 1) := by decide +kernel
theorem dX0_inject_24 : decode cX0_inject 24 = .ok (.getfield 95, 3) := by decide +kernel
theorem dX0_inject_27 : decode cX0_inject 27 = .ok (.if_icmp .gt 6, 3) := by decide +kernel
theorem dX0_inject_30 : decode cX0_inject 30 = .ok (.bipush (-4), 2) := by decide +kernel
theorem dX0_inject_32 : decode cX0_inject 32 = .ok (.ireturn, 1) := by decide +kernel
theorem dX0_inject_33 : decode cX0_inject 33 = .ok (.aload_n 0, 1) := by decide +kernel
theorem dX0_inject_34 : decode cX0_inject 34 = .ok (.getfield 63, 3) := by decide +kernel
theorem dX0_inject_37 : decode cX0_inject 37 = .ok (.bipush 24, 2) := by decide +kernel
theorem dX0_inject_39 : decode cX0_inject 39 = .ok (.if_icmp .lt 6, 3) := by decide +kernel
theorem dX0_inject_42 : decode cX0_inject 42 = .ok (.bipush (-3), 2) := by decide +kernel
theorem dX0_inject_44 : decode cX0_inject 44 = .ok (.ireturn, 1) := by decide +kernel
theorem dX0_inject_45 : decode cX0_inject 45 = .ok (.aload_n 0, 1) := by decide +kernel
theorem dX0_inject_46 : decode cX0_inject 46 = .ok (.dup, 1) := by decide +kernel
theorem dX0_inject_47 : decode cX0_inject 47 = .ok (.getfield 63, 3) := by decide +kernel
theorem dX0_inject_50 : decode cX0_inject 50 = .ok (.iconst 1, 1) := by decide +kernel
theorem dX0_inject_51 : decode cX0_inject 51 = .ok (.iadd, 1) := by decide +kernel
theorem dX0_inject_52 : decode cX0_inject 52 = .ok (.putfield 63, 3) := by decide +kernel
theorem dX0_inject_55 : decode cX0_inject 55 = .ok (.aload_n 0, 1) := by decide +kernel
theorem dX0_inject_56 : decode cX0_inject 56 = .ok (.iload_n 1, 1) := by decide +kernel
theorem dX0_inject_57 : decode cX0_inject 57 = .ok (.iload_n 2, 1) := by decide +kernel
theorem dX0_inject_58 : decode cX0_inject 58 = .ok (.iload_n 3, 1) := by decide +kernel
theorem dX0_inject_59 : decode cX0_inject 59 = .ok (.bipush 15, 2) := by decide +kernel
theorem dX0_inject_61 : decode cX0_inject 61 = .ok (.iand, 1) := by decide +kernel
theorem dX0_inject_62 : decode cX0_inject 62 = .ok (.iload_n 3, 1) := by decide +kernel
theorem dX0_inject_63 : decode cX0_inject 63 = .ok (.iconst 4, 1) := by decide +kernel
theorem dX0_inject_64 : decode cX0_inject 64 = .ok (.ishr, 1) := by decide +kernel
theorem dX0_inject_65 : decode cX0_inject 65 = .ok (.iconst 3, 1) := by decide +kernel
theorem dX0_inject_66 : decode cX0_inject 66 = .ok (.iand, 1) := by decide +kernel
theorem dX0_inject_67 : decode cX0_inject 67 = .ok (.invokevirtual 88, 3) := by decide +kernel
theorem dX0_inject_70 : decode cX0_inject 70 = .ok (.istore 4, 2) := by decide +kernel
theorem dX0_inject_72 : decode cX0_inject 72 = .ok (.aload_n 0, 1) := by decide +kernel
theorem dX0_inject_73 : decode cX0_inject 73 = .ok (.iload 4, 2) := by decide +kernel
theorem dX0_inject_75 : decode cX0_inject 75 = .ok (.invokevirtual 92, 3) := by decide +kernel
theorem dX0_inject_78 : decode cX0_inject 78 = .ok (.aload_n 0, 1) := by decide +kernel
theorem dX0_inject_79 : decode cX0_inject 79 = .ok (.getfield 63, 3) := by decide +kernel
theorem dX0_inject_82 : decode cX0_inject 82 = .ok (.ireturn, 1) := by decide +kernel
theorem dX0_newEvent_0 : decode cX0_newEvent 0 = .ok (.iconst 0, 1) := by decide +kernel
theorem dX0_newEvent_1 : decode cX0_newEvent 1 = .ok (.istore 5, 2) := by decide +kernel
theorem dX0_newEvent_3 : decode cX0_newEvent 3 = .ok (.iload 5, 2) := by decide +kernel
theorem dX0_newEvent_5 : decode cX0_newEvent 5 = .ok (.bipush 95, 2) := by decide +kernel
theorem dX0_newEvent_7 : decode cX0_newEvent 7 = .ok (.if_icmp .ge 19, 3) := by decide +kernel
theorem dX0_newEvent_10 : decode cX0_newEvent 10 = .ok (.aload_n 0, 1) := by decide +kernel
theorem dX0_newEvent_11 : decode cX0_newEvent 11 = .ok (.getfield 19, 3) := by decide +kernel
theorem dX0_newEvent_14 : decode cX0_newEvent 14 = .ok (.iload 5, 2) := by decide +kernel
theorem dX0_newEvent_16 : decode cX0_newEvent 16 = .ok (.baload, 1) := by decide +kernel
theorem dX0_newEvent_17 : decode cX0_newEvent 17 = .ok (.ifCond .eq 9, 3) := by decide +kernel
theorem dX0_newEvent_20 : decode cX0_newEvent 20 = .ok (.iinc 5 1, 3) := by decide +kernel
theorem dX0_newEvent_23 : decode cX0_newEvent 23 = .ok (.goto (-20), 3) := by decide +kernel
theorem dX0_newEvent_26 : decode cX0_newEvent 26 = .ok (.aload_n 0, 1) := by decide +kernel
theorem dX0_newEvent_27 : decode cX0_newEvent 27 = .ok (.getfield 19, 3) := by decide +kernel
theorem dX0_newEvent_30 : decode cX0_newEvent 30 = .ok (.iload 5, 2) := by decide +kernel
theorem dX0_newEvent_32 : decode cX0_newEvent 32 = .ok (.iconst 1, 1) := by decide +kernel
theorem dX0_newEvent_33 : decode cX0_newEvent 33 = .ok (.bastore, 1) := by decide +kernel
theorem dX0_newEvent_34 : decode cX0_newEvent 34 = .ok (.aload_n 0, 1) := by decide +kernel
theorem dX0_newEvent_35 : decode cX0_newEvent 35 = .ok (.getfield 23, 3) := by decide +kernel
theorem dX0_newEvent_38 : decode cX0_newEvent 38 = .ok (.iload 5, 2) := by decide +kernel
theorem dX0_newEvent_40 : decode cX0_newEvent 40 = .ok (.iload_n 2, 1) := by decide +kernel
theorem dX0_newEvent_41 : decode cX0_newEvent 41 = .ok (.iastore, 1) := by decide +kernel
theorem dX0_newEvent_42 : decode cX0_newEvent 42 = .ok (.aload_n 0, 1) := by decide +kernel
theorem dX0_newEvent_43 : decode cX0_newEvent 43 = .ok (.getfield 26, 3) := by decide +kernel
theorem dX0_newEvent_46 : decode cX0_newEvent 46 = .ok (.iload 5, 2) := by decide +kernel
theorem dX0_newEvent_48 : decode cX0_newEvent 48 = .ok (.iload_n 1, 1) := by decide +kernel
theorem dX0_newEvent_49 : decode cX0_newEvent 49 = .ok (.iastore, 1) := by decide +kernel
theorem dX0_newEvent_50 : decode cX0_newEvent 50 = .ok (.aload_n 0, 1) := by decide +kernel
theorem dX0_newEvent_51 : decode cX0_newEvent 51 = .ok (.getfield 29, 3) := by decide +kernel
theorem dX0_newEvent_54 : decode cX0_newEvent 54 = .ok (.iload 5, 2) := by decide +kernel
end
section
set_option maxRecDepth 100000
theorem dX0_newEvent_56 : decode cX0_newEvent 56 = .ok (.iload_n 3, 1) := by decide +kernel
theorem dX0_newEvent_57 : decode cX0_newEvent 57 = .ok (.iastore, 1) := by decide +kernel
theorem dX0_newEvent_58 : decode cX0_newEvent 58 = .ok (.aload_n 0, 1) := by decide +kernel
theorem dX0_newEvent_59 : decode cX0_newEvent 59 = .ok (.getfield 32, 3) := by decide +kernel
theorem dX0_newEvent_62 : decode cX0_newEvent 62 = .ok (.iload 5, 2) := by decide +kernel
theorem dX0_newEvent_64 : decode cX0_newEvent 64 = .ok (.iload 4, 2) := by decide +kernel
theorem dX0_newEvent_66 : decode cX0_newEvent 66 = .ok (.iastore, 1) := by decide +kernel
theorem dX0_newEvent_67 : decode cX0_newEvent 67 = .ok (.aload_n 0, 1) := by decide +kernel
theorem dX0_newEvent_68 : decode cX0_newEvent 68 = .ok (.getfield 35, 3) := by decide +kernel
theorem dX0_newEvent_71 : decode cX0_newEvent 71 = .ok (.iload 5, 2) := by decide +kernel
theorem dX0_newEvent_73 : decode cX0_newEvent 73 = .ok (.iconst 0, 1) := by decide +kernel
theorem dX0_newEvent_74 : decode cX0_newEvent 74 = .ok (.bastore, 1) := by decide +kernel
theorem dX0_newEvent_75 : decode cX0_newEvent 75 = .ok (.aload_n 0, 1) := by decide +kernel
theorem dX0_newEvent_76 : decode cX0_newEvent 76 = .ok (.getfield 41, 3) := by decide +kernel
theorem dX0_newEvent_79 : decode cX0_newEvent 79 = .ok (.iload 5, 2) := by decide +kernel
theorem dX0_newEvent_81 : decode cX0_newEvent 81 = .ok (.iconst (-1), 1) := by decide +kernel
theorem dX0_newEvent_82 : decode cX0_newEvent 82 = .ok (.iastore, 1) := by decide +kernel
theorem dX0_newEvent_83 : decode cX0_newEvent 83 = .ok (.iload 5, 2) := by decide +kernel
theorem dX0_newEvent_85 : decode cX0_newEvent 85 = .ok (.ireturn, 1) := by decide +kernel
theorem dX0_arrive_0 : decode cX0_arrive 0 = .ok (.aload_n 0, 1) := by decide +kernel
theorem dX0_arrive_1 : decode cX0_arrive 1 = .ok (.iload_n 1, 1) := by decide +kernel
theorem dX0_arrive_2 : decode cX0_arrive 2 = .ok (.invokevirtual 82, 3) := by decide +kernel
theorem dX0_arrive_5 : decode cX0_arrive 5 = .ok (.aload_n 0, 1) := by decide +kernel
theorem dX0_arrive_6 : decode cX0_arrive 6 = .ok (.invokevirtual 85, 3) := by decide +kernel
theorem dX0_arrive_9 : decode cX0_arrive 9 = .ok (.return_, 1) := by decide +kernel
theorem dX0_goBack_0 : decode cX0_goBack 0 = .ok (.aload_n 0, 1) := by decide +kernel
theorem dX0_goBack_1 : decode cX0_goBack 1 = .ok (.getfield 26, 3) := by decide +kernel
theorem dX0_goBack_4 : decode cX0_goBack 4 = .ok (.iload_n 1, 1) := by decide +kernel
theorem dX0_goBack_5 : decode cX0_goBack 5 = .ok (.iaload, 1) := by decide +kernel
theorem dX0_goBack_6 : decode cX0_goBack 6 = .ok (.istore_n 2, 1) := by decide +kernel
theorem dX0_goBack_7 : decode cX0_goBack 7 = .ok (.aload_n 0, 1) := by decide +kernel
theorem dX0_goBack_8 : decode cX0_goBack 8 = .ok (.iload_n 2, 1) := by decide +kernel
theorem dX0_goBack_9 : decode cX0_goBack 9 = .ok (.invokevirtual 74, 3) := by decide +kernel
theorem dX0_goBack_12 : decode cX0_goBack 12 = .ok (.istore_n 3, 1) := by decide +kernel
theorem dX0_goBack_13 : decode cX0_goBack 13 = .ok (.iconst 0, 1) := by decide +kernel
theorem dX0_goBack_14 : decode cX0_goBack 14 = .ok (.istore 4, 2) := by decide +kernel
theorem dX0_goBack_16 : decode cX0_goBack 16 = .ok (.iload 4, 2) := by decide +kernel
theorem dX0_goBack_18 : decode cX0_goBack 18 = .ok (.bipush 96, 2) := by decide +kernel
theorem dX0_goBack_20 : decode cX0_goBack 20 = .ok (.if_icmp .ge 38, 3) := by decide +kernel
theorem dX0_goBack_23 : decode cX0_goBack 23 = .ok (.iload_n 3, 1) := by decide +kernel
theorem dX0_goBack_24 : decode cX0_goBack 24 = .ok (.ifCond .lt 34, 3) := by decide +kernel
theorem dX0_goBack_27 : decode cX0_goBack 27 = .ok (.iload_n 3, 1) := by decide +kernel
theorem dX0_goBack_28 : decode cX0_goBack 28 = .ok (.iload_n 1, 1) := by decide +kernel
theorem dX0_goBack_29 : decode cX0_goBack 29 = .ok (.if_icmp .eq 12, 3) := by decide +kernel
theorem dX0_goBack_32 : decode cX0_goBack 32 = .ok (.aload_n 0, 1) := by decide +kernel
theorem dX0_goBack_33 : decode cX0_goBack 33 = .ok (.iload_n 1, 1) := by decide +kernel
theorem dX0_goBack_34 : decode cX0_goBack 34 = .ok (.iload_n 3, 1) := by decide +kernel
theorem dX0_goBack_35 : decode cX0_goBack 35 = .ok (.invokevirtual 67, 3) := by decide +kernel
theorem dX0_goBack_38 : decode cX0_goBack 38 = .ok (.ifCond .eq 20, 3) := by decide +kernel
theorem dX0_goBack_41 : decode cX0_goBack 41 = .ok (.aload_n 0, 1) := by decide +kernel
theorem dX0_goBack_42 : decode cX0_goBack 42 = .ok (.iload_n 3, 1) := by decide +kernel
theorem dX0_goBack_43 : decode cX0_goBack 43 = .ok (.invokevirtual 78, 3) := by decide +kernel
theorem dX0_goBack_46 : decode cX0_goBack 46 = .ok (.aload_n 0, 1) := by decide +kernel
theorem dX0_goBack_47 : decode cX0_goBack 47 = .ok (.iload_n 2, 1) := by decide +kernel
theorem dX0_goBack_48 : decode cX0_goBack 48 = .ok (.invokevirtual 74, 3) := by decide +kernel
theorem dX0_goBack_51 : decode cX0_goBack 51 = .ok (.istore_n 3, 1) := by decide +kernel
theorem dX0_goBack_52 : decode cX0_goBack 52 = .ok (.iinc 4 1, 3) := by decide +kernel
theorem dX0_goBack_55 : decode cX0_goBack 55 = .ok (.goto (-39), 3) := by decide +kernel
theorem dX0_goBack_58 : decode cX0_goBack 58 = .ok (.return_, 1) := by decide +kernel
theorem dX0_lastOf_0 : decode cX0_lastOf 0 = .ok (.iconst (-1), 1) := by decide +kernel
theorem dX0_lastOf_1 : decode cX0_lastOf 1 = .ok (.istore_n 2, 1) := by decide +kernel
theorem dX0_lastOf_2 : decode cX0_lastOf 2 = .ok (.iconst 0, 1) := by decide +kernel
theorem dX0_lastOf_3 : decode cX0_lastOf 3 = .ok (.istore_n 3, 1) := by decide +kernel
theorem dX0_lastOf_4 : decode cX0_lastOf 4 = .ok (.iload_n 3, 1) := by decide +kernel
theorem dX0_lastOf_5 : decode cX0_lastOf 5 = .ok (.bipush 96, 2) := by decide +kernel
theorem dX0_lastOf_7 : decode cX0_lastOf 7 = .ok (.if_icmp .ge 52, 3) := by decide +kernel
theorem dX0_lastOf_10 : decode cX0_lastOf 10 = .ok (.aload_n 0, 1) := by decide +kernel
theorem dX0_lastOf_11 : decode cX0_lastOf 11 = .ok (.getfield 19, 3) := by decide +kernel
theorem dX0_lastOf_14 : decode cX0_lastOf 14 = .ok (.iload_n 3, 1) := by decide +kernel
theorem dX0_lastOf_15 : decode cX0_lastOf 15 = .ok (.baload, 1) := by decide +kernel
theorem dX0_lastOf_16 : decode cX0_lastOf 16 = .ok (.ifCond .eq 37, 3) := by decide +kernel
theorem dX0_lastOf_19 : decode cX0_lastOf 19 = .ok (.aload_n 0, 1) := by decide +kernel
theorem dX0_lastOf_20 : decode cX0_lastOf 20 = .ok (.getfield 35, 3) := by decide +kernel
theorem dX0_lastOf_23 : decode cX0_lastOf 23 = .ok (.iload_n 3, 1) := by decide +kernel
theorem dX0_lastOf_24 : decode cX0_lastOf 24 = .ok (.baload, 1) := by decide +kernel
theorem dX0_lastOf_25 : decode cX0_lastOf 25 = .ok (.ifCond .eq 28, 3) := by decide +kernel
theorem dX0_lastOf_28 : decode cX0_lastOf 28 = .ok (.aload_n 0, 1) := by decide +kernel
theorem dX0_lastOf_29 : decode cX0_lastOf 29 = .ok (.getfield 26, 3) := by decide +kernel
theorem dX0_lastOf_32 : decode cX0_lastOf 32 = .ok (.iload_n 3, 1) := by decide +kernel
theorem dX0_lastOf_33 : decode cX0_lastOf 33 = .ok (.iaload, 1) := by decide +kernel
theorem dX0_lastOf_34 : decode cX0_lastOf 34 = .ok (.iload_n 1, 1) := by decide +kernel
theorem dX0_lastOf_35 : decode cX0_lastOf 35 = .ok (.if_icmp .ne 18, 3) := by decide +kernel
theorem dX0_lastOf_38 : decode cX0_lastOf 38 = .ok (.iload_n 2, 1) := by decide +kernel
theorem dX0_lastOf_39 : decode cX0_lastOf 39 = .ok (.ifCond .lt 12, 3) := by decide +kernel
theorem dX0_lastOf_42 : decode cX0_lastOf 42 = .ok (.aload_n 0, 1) := by decide +kernel
theorem dX0_lastOf_43 : decode cX0_lastOf 43 = .ok (.iload_n 2, 1) := by decide +kernel
theorem dX0_lastOf_44 : decode cX0_lastOf 44 = .ok (.iload_n 3, 1) := by decide +kernel
theorem dX0_lastOf_45 : decode cX0_lastOf 45 = .ok (.invokevirtual 67, 3) := by decide +kernel
theorem dX0_lastOf_48 : decode cX0_lastOf 48 = .ok (.ifCond .eq 5, 3) := by decide +kernel
theorem dX0_lastOf_51 : decode cX0_lastOf 51 = .ok (.iload_n 3, 1) := by decide +kernel
theorem dX0_lastOf_52 : decode cX0_lastOf 52 = .ok (.istore_n 2, 1) := by decide +kernel
theorem dX0_lastOf_53 : decode cX0_lastOf 53 = .ok (.iinc 3 1, 3) := by decide +kernel
theorem dX0_lastOf_56 : decode cX0_lastOf 56 = .ok (.goto (-52), 3) := by decide +kernel
theorem dX0_lastOf_59 : decode cX0_lastOf 59 = .ok (.iload_n 2, 1) := by decide +kernel
theorem dX0_lastOf_60 : decode cX0_lastOf 60 = .ok (.ireturn, 1) := by decide +kernel
theorem dX0_sooner_0 : decode cX0_sooner 0 = .ok (.aload_n 0, 1) := by decide +kernel
theorem dX0_sooner_1 : decode cX0_sooner 1 = .ok (.getfield 23, 3) := by decide +kernel
theorem dX0_sooner_4 : decode cX0_sooner 4 = .ok (.iload_n 1, 1) := by decide +kernel
theorem dX0_sooner_5 : decode cX0_sooner 5 = .ok (.iaload, 1) := by decide +kernel
theorem dX0_sooner_6 : decode cX0_sooner 6 = .ok (.aload_n 0, 1) := by decide +kernel
theorem dX0_sooner_7 : decode cX0_sooner 7 = .ok (.getfield 23, 3) := by decide +kernel
theorem dX0_sooner_10 : decode cX0_sooner 10 = .ok (.iload_n 2, 1) := by decide +kernel
theorem dX0_sooner_11 : decode cX0_sooner 11 = .ok (.iaload, 1) := by decide +kernel
theorem dX0_sooner_12 : decode cX0_sooner 12 = .ok (.if_icmp .eq 24, 3) := by decide +kernel
theorem dX0_sooner_15 : decode cX0_sooner 15 = .ok (.aload_n 0, 1) := by decide +kernel
theorem dX0_sooner_16 : decode cX0_sooner 16 = .ok (.getfield 23, 3) := by decide +kernel
theorem dX0_sooner_19 : decode cX0_sooner 19 = .ok (.iload_n 1, 1) := by decide +kernel
theorem dX0_sooner_20 : decode cX0_sooner 20 = .ok (.iaload, 1) := by decide +kernel
theorem dX0_sooner_21 : decode cX0_sooner 21 = .ok (.aload_n 0, 1) := by decide +kernel
theorem dX0_sooner_22 : decode cX0_sooner 22 = .ok (.getfield 23, 3) := by decide +kernel
theorem dX0_sooner_25 : decode cX0_sooner 25 = .ok (.iload_n 2, 1) := by decide +kernel
theorem dX0_sooner_26 : decode cX0_sooner 26 = .ok (.iaload, 1) := by decide +kernel
theorem dX0_sooner_27 : decode cX0_sooner 27 = .ok (.if_icmp .ge 7, 3) := by decide +kernel
theorem dX0_sooner_30 : decode cX0_sooner 30 = .ok (.iconst 1, 1) := by decide +kernel
theorem dX0_sooner_31 : decode cX0_sooner 31 = .ok (.goto 4, 3) := by decide +kernel
theorem dX0_sooner_34 : decode cX0_sooner 34 = .ok (.iconst 0, 1) := by decide +kernel
theorem dX0_sooner_35 : decode cX0_sooner 35 = .ok (.ireturn, 1) := by decide +kernel
theorem dX0_sooner_36 : decode cX0_sooner 36 = .ok (.aload_n 0, 1) := by decide +kernel
theorem dX0_sooner_37 : decode cX0_sooner 37 = .ok (.getfield 29, 3) := by decide +kernel
theorem dX0_sooner_40 : decode cX0_sooner 40 = .ok (.iload_n 1, 1) := by decide +kernel
theorem dX0_sooner_41 : decode cX0_sooner 41 = .ok (.iaload, 1) := by decide +kernel
theorem dX0_sooner_42 : decode cX0_sooner 42 = .ok (.aload_n 0, 1) := by decide +kernel
theorem dX0_sooner_43 : decode cX0_sooner 43 = .ok (.getfield 29, 3) := by decide +kernel
theorem dX0_sooner_46 : decode cX0_sooner 46 = .ok (.iload_n 2, 1) := by decide +kernel
theorem dX0_sooner_47 : decode cX0_sooner 47 = .ok (.iaload, 1) := by decide +kernel
theorem dX0_sooner_48 : decode cX0_sooner 48 = .ok (.if_icmp .eq 24, 3) := by decide +kernel
theorem dX0_sooner_51 : decode cX0_sooner 51 = .ok (.aload_n 0, 1) := by decide +kernel
theorem dX0_sooner_52 : decode cX0_sooner 52 = .ok (.getfield 29, 3) := by decide +kernel
theorem dX0_sooner_55 : decode cX0_sooner 55 = .ok (.iload_n 1, 1) := by decide +kernel
theorem dX0_sooner_56 : decode cX0_sooner 56 = .ok (.iaload, 1) := by decide +kernel
theorem dX0_sooner_57 : decode cX0_sooner 57 = .ok (.aload_n 0, 1) := by decide +kernel
theorem dX0_sooner_58 : decode cX0_sooner 58 = .ok (.getfield 29, 3) := by decide +kernel
theorem dX0_sooner_61 : decode cX0_sooner 61 = .ok (.iload_n 2, 1) := by decide +kernel
theorem dX0_sooner_62 : decode cX0_sooner 62 = .ok (.iaload, 1) := by decide +kernel
theorem dX0_sooner_63 : decode cX0_sooner 63 = .ok (.if_icmp .ge 7, 3) := by decide +kernel
theorem dX0_sooner_66 : decode cX0_sooner 66 = .ok (.iconst 1, 1) := by decide +kernel
theorem dX0_sooner_67 : decode cX0_sooner 67 = .ok (.goto 4, 3) := by decide +kernel
theorem dX0_sooner_70 : decode cX0_sooner 70 = .ok (.iconst 0, 1) := by decide +kernel
theorem dX0_sooner_71 : decode cX0_sooner 71 = .ok (.ireturn, 1) := by decide +kernel
theorem dX0_sooner_72 : decode cX0_sooner 72 = .ok (.aload_n 0, 1) := by decide +kernel
theorem dX0_sooner_73 : decode cX0_sooner 73 = .ok (.getfield 32, 3) := by decide +kernel
theorem dX0_sooner_76 : decode cX0_sooner 76 = .ok (.iload_n 1, 1) := by decide +kernel
theorem dX0_sooner_77 : decode cX0_sooner 77 = .ok (.iaload, 1) := by decide +kernel
theorem dX0_sooner_78 : decode cX0_sooner 78 = .ok (.aload_n 0, 1) := by decide +kernel
theorem dX0_sooner_79 : decode cX0_sooner 79 = .ok (.getfield 32, 3) := by decide +kernel
theorem dX0_sooner_82 : decode cX0_sooner 82 = .ok (.iload_n 2, 1) := by decide +kernel
theorem dX0_sooner_83 : decode cX0_sooner 83 = .ok (.iaload, 1) := by decide +kernel
theorem dX0_sooner_84 : decode cX0_sooner 84 = .ok (.if_icmp .eq 24, 3) := by decide +kernel
theorem dX0_sooner_87 : decode cX0_sooner 87 = .ok (.aload_n 0, 1) := by decide +kernel
theorem dX0_sooner_88 : decode cX0_sooner 88 = .ok (.getfield 32, 3) := by decide +kernel
theorem dX0_sooner_91 : decode cX0_sooner 91 = .ok (.iload_n 1, 1) := by decide +kernel
theorem dX0_sooner_92 : decode cX0_sooner 92 = .ok (.iaload, 1) := by decide +kernel
theorem dX0_sooner_93 : decode cX0_sooner 93 = .ok (.aload_n 0, 1) := by decide +kernel
theorem dX0_sooner_94 : decode cX0_sooner 94 = .ok (.getfield 32, 3) := by decide +kernel
theorem dX0_sooner_97 : decode cX0_sooner 97 = .ok (.iload_n 2, 1) := by decide +kernel
theorem dX0_sooner_98 : decode cX0_sooner 98 = .ok (.iaload, 1) := by decide +kernel
theorem dX0_sooner_99 : decode cX0_sooner 99 = .ok (.if_icmp .ge 7, 3) := by decide +kernel
theorem dX0_sooner_102 : decode cX0_sooner 102 = .ok (.iconst 1, 1) := by decide +kernel
theorem dX0_sooner_103 : decode cX0_sooner 103 = .ok (.goto 4, 3) := by decide +kernel
theorem dX0_sooner_106 : decode cX0_sooner 106 = .ok (.iconst 0, 1) := by decide +kernel
theorem dX0_sooner_107 : decode cX0_sooner 107 = .ok (.ireturn, 1) := by decide +kernel
theorem dX0_sooner_108 : decode cX0_sooner 108 = .ok (.iload_n 1, 1) := by decide +kernel
theorem dX0_sooner_109 : decode cX0_sooner 109 = .ok (.iload_n 2, 1) := by decide +kernel
theorem dX0_sooner_110 : decode cX0_sooner 110 = .ok (.if_icmp .ge 7, 3) := by decide +kernel
theorem dX0_sooner_113 : decode cX0_sooner 113 = .ok (.iconst 1, 1) := by decide +kernel
theorem dX0_sooner_114 : decode cX0_sooner 114 = .ok (.goto 4, 3) := by decide +kernel
theorem dX0_sooner_117 : decode cX0_sooner 117 = .ok (.iconst 0, 1) := by decide +kernel
theorem dX0_sooner_118 : decode cX0_sooner 118 = .ok (.ireturn, 1) := by decide +kernel
theorem dX0_undo_0 : decode cX0_undo 0 = .ok (.aload_n 0, 1) := by decide +kernel
theorem dX0_undo_1 : decode cX0_undo 1 = .ok (.getfield 44, 3) := by decide +kernel
theorem dX0_undo_4 : decode cX0_undo 4 = .ok (.aload_n 0, 1) := by decide +kernel
theorem dX0_undo_5 : decode cX0_undo 5 = .ok (.getfield 26, 3) := by decide +kernel
theorem dX0_undo_8 : decode cX0_undo 8 = .ok (.iload_n 1, 1) := by decide +kernel
theorem dX0_undo_9 : decode cX0_undo 9 = .ok (.iaload, 1) := by decide +kernel
theorem dX0_undo_10 : decode cX0_undo 10 = .ok (.aload_n 0, 1) := by decide +kernel
theorem dX0_undo_11 : decode cX0_undo 11 = .ok (.getfield 38, 3) := by decide +kernel
theorem dX0_undo_14 : decode cX0_undo 14 = .ok (.iload_n 1, 1) := by decide +kernel
theorem dX0_undo_15 : decode cX0_undo 15 = .ok (.iaload, 1) := by decide +kernel
theorem dX0_undo_16 : decode cX0_undo 16 = .ok (.iastore, 1) := by decide +kernel
theorem dX0_undo_17 : decode cX0_undo 17 = .ok (.aload_n 0, 1) := by decide +kernel
theorem dX0_undo_18 : decode cX0_undo 18 = .ok (.getfield 35, 3) := by decide +kernel
theorem dX0_undo_21 : decode cX0_undo 21 = .ok (.iload_n 1, 1) := by decide +kernel
theorem dX0_undo_22 : decode cX0_undo 22 = .ok (.iconst 0, 1) := by decide +kernel
theorem dX0_undo_23 : decode cX0_undo 23 = .ok (.bastore, 1) := by decide +kernel
theorem dX0_undo_24 : decode cX0_undo 24 = .ok (.aload_n 0, 1) := by decide +kernel
theorem dX0_undo_25 : decode cX0_undo 25 = .ok (.getfield 41, 3) := by decide +kernel
theorem dX0_undo_28 : decode cX0_undo 28 = .ok (.iload_n 1, 1) := by decide +kernel
theorem dX0_undo_29 : decode cX0_undo 29 = .ok (.iaload, 1) := by decide +kernel
theorem dX0_undo_30 : decode cX0_undo 30 = .ok (.ifCond .lt 35, 3) := by decide +kernel
theorem dX0_undo_33 : decode cX0_undo 33 = .ok (.aload_n 0, 1) := by decide +kernel
theorem dX0_undo_34 : decode cX0_undo 34 = .ok (.getfield 53, 3) := by decide +kernel
theorem dX0_undo_37 : decode cX0_undo 37 = .ok (.aload_n 0, 1) := by decide +kernel
theorem dX0_undo_38 : decode cX0_undo 38 = .ok (.getfield 71, 3) := by decide +kernel
theorem dX0_undo_41 : decode cX0_undo 41 = .ok (.aload_n 0, 1) := by decide +kernel
theorem dX0_undo_42 : decode cX0_undo 42 = .ok (.getfield 41, 3) := by decide +kernel
theorem dX0_undo_45 : decode cX0_undo 45 = .ok (.iload_n 1, 1) := by decide +kernel
theorem dX0_undo_46 : decode cX0_undo 46 = .ok (.iaload, 1) := by decide +kernel
theorem dX0_undo_47 : decode cX0_undo 47 = .ok (.iastore, 1) := by decide +kernel
theorem dX0_undo_48 : decode cX0_undo 48 = .ok (.aload_n 0, 1) := by decide +kernel
theorem dX0_undo_49 : decode cX0_undo 49 = .ok (.dup, 1) := by decide +kernel
theorem dX0_undo_50 : decode cX0_undo 50 = .ok (.getfield 71, 3) := by decide +kernel
theorem dX0_undo_53 : decode cX0_undo 53 = .ok (.iconst 1, 1) := by decide +kernel
theorem dX0_undo_54 : decode cX0_undo 54 = .ok (.iadd, 1) := by decide +kernel
theorem dX0_undo_55 : decode cX0_undo 55 = .ok (.putfield 71, 3) := by decide +kernel
theorem dX0_undo_58 : decode cX0_undo 58 = .ok (.aload_n 0, 1) := by decide +kernel
theorem dX0_undo_59 : decode cX0_undo 59 = .ok (.getfield 41, 3) := by decide +kernel
theorem dX0_undo_62 : decode cX0_undo 62 = .ok (.iload_n 1, 1) := by decide +kernel
theorem dX0_undo_63 : decode cX0_undo 63 = .ok (.iconst (-1), 1) := by decide +kernel
theorem dX0_undo_64 : decode cX0_undo 64 = .ok (.iastore, 1) := by decide +kernel
theorem dX0_undo_65 : decode cX0_undo 65 = .ok (.return_, 1) := by decide +kernel
theorem dX0_callBack_0 : decode cX0_callBack 0 = .ok (.aload_n 0, 1) := by decide +kernel
theorem dX0_callBack_1 : decode cX0_callBack 1 = .ok (.getfield 71, 3) := by decide +kernel
theorem dX0_callBack_4 : decode cX0_callBack 4 = .ok (.ifCond .le 47, 3) := by decide +kernel
theorem dX0_callBack_7 : decode cX0_callBack 7 = .ok (.aload_n 0, 1) := by decide +kernel
theorem dX0_callBack_8 : decode cX0_callBack 8 = .ok (.dup, 1) := by decide +kernel
theorem dX0_callBack_9 : decode cX0_callBack 9 = .ok (.getfield 71, 3) := by decide +kernel
theorem dX0_callBack_12 : decode cX0_callBack 12 = .ok (.iconst 1, 1) := by decide +kernel
theorem dX0_callBack_13 : decode cX0_callBack 13 = .ok (.isub, 1) := by decide +kernel
theorem dX0_callBack_14 : decode cX0_callBack 14 = .ok (.putfield 71, 3) := by decide +kernel
theorem dX0_callBack_17 : decode cX0_callBack 17 = .ok (.aload_n 0, 1) := by decide +kernel
theorem dX0_callBack_18 : decode cX0_callBack 18 = .ok (.getfield 53, 3) := by decide +kernel
theorem dX0_callBack_21 : decode cX0_callBack 21 = .ok (.aload_n 0, 1) := by decide +kernel
theorem dX0_callBack_22 : decode cX0_callBack 22 = .ok (.getfield 71, 3) := by decide +kernel
theorem dX0_callBack_25 : decode cX0_callBack 25 = .ok (.iaload, 1) := by decide +kernel
theorem dX0_callBack_26 : decode cX0_callBack 26 = .ok (.istore_n 1, 1) := by decide +kernel
theorem dX0_callBack_27 : decode cX0_callBack 27 = .ok (.aload_n 0, 1) := by decide +kernel
theorem dX0_callBack_28 : decode cX0_callBack 28 = .ok (.getfield 35, 3) := by decide +kernel
theorem dX0_callBack_31 : decode cX0_callBack 31 = .ok (.iload_n 1, 1) := by decide +kernel
theorem dX0_callBack_32 : decode cX0_callBack 32 = .ok (.baload, 1) := by decide +kernel
theorem dX0_callBack_33 : decode cX0_callBack 33 = .ok (.ifCond .eq 8, 3) := by decide +kernel
theorem dX0_callBack_36 : decode cX0_callBack 36 = .ok (.aload_n 0, 1) := by decide +kernel
theorem dX0_callBack_37 : decode cX0_callBack 37 = .ok (.iload_n 1, 1) := by decide +kernel
theorem dX0_callBack_38 : decode cX0_callBack 38 = .ok (.invokevirtual 82, 3) := by decide +kernel
theorem dX0_callBack_41 : decode cX0_callBack 41 = .ok (.aload_n 0, 1) := by decide +kernel
theorem dX0_callBack_42 : decode cX0_callBack 42 = .ok (.getfield 19, 3) := by decide +kernel
theorem dX0_callBack_45 : decode cX0_callBack 45 = .ok (.iload_n 1, 1) := by decide +kernel
theorem dX0_callBack_46 : decode cX0_callBack 46 = .ok (.iconst 0, 1) := by decide +kernel
theorem dX0_callBack_47 : decode cX0_callBack 47 = .ok (.bastore, 1) := by decide +kernel
theorem dX0_callBack_48 : decode cX0_callBack 48 = .ok (.goto (-48), 3) := by decide +kernel
theorem dX0_callBack_51 : decode cX0_callBack 51 = .ok (.return_, 1) := by decide +kernel
theorem dX0_work_0 : decode cX0_work 0 = .ok (.iload_n 1, 1) := by decide +kernel
theorem dX0_work_1 : decode cX0_work 1 = .ok (.invokestatic 59, 3) := by decide +kernel
theorem dX0_work_4 : decode cX0_work 4 = .ok (.ifCond .eq 5, 3) := by decide +kernel
theorem dX0_work_7 : decode cX0_work 7 = .ok (.iconst (-1), 1) := by decide +kernel
theorem dX0_work_8 : decode cX0_work 8 = .ok (.ireturn, 1) := by decide +kernel
theorem dX0_work_9 : decode cX0_work 9 = .ok (.iconst 0, 1) := by decide +kernel
theorem dX0_work_10 : decode cX0_work 10 = .ok (.istore_n 3, 1) := by decide +kernel
theorem dX0_work_11 : decode cX0_work 11 = .ok (.iload_n 3, 1) := by decide +kernel
theorem dX0_work_12 : decode cX0_work 12 = .ok (.iload_n 2, 1) := by decide +kernel
theorem dX0_work_13 : decode cX0_work 13 = .ok (.if_icmp .ge 33, 3) := by decide +kernel
theorem dX0_work_16 : decode cX0_work 16 = .ok (.iload_n 3, 1) := by decide +kernel
theorem dX0_work_17 : decode cX0_work 17 = .ok (.bipush 96, 2) := by decide +kernel
theorem dX0_work_19 : decode cX0_work 19 = .ok (.if_icmp .ge 27, 3) := by decide +kernel
theorem dX0_work_22 : decode cX0_work 22 = .ok (.aload_n 0, 1) := by decide +kernel
theorem dX0_work_23 : decode cX0_work 23 = .ok (.iload_n 1, 1) := by decide +kernel
theorem dX0_work_24 : decode cX0_work 24 = .ok (.invokevirtual 98, 3) := by decide +kernel
theorem dX0_work_27 : decode cX0_work 27 = .ok (.istore 4, 2) := by decide +kernel
theorem dX0_work_29 : decode cX0_work 29 = .ok (.iload 4, 2) := by decide +kernel
theorem dX0_work_31 : decode cX0_work 31 = .ok (.ifCond .lt 9, 3) := by decide +kernel
theorem dX0_work_34 : decode cX0_work 34 = .ok (.aload_n 0, 1) := by decide +kernel
end
section
set_option maxRecDepth 100000
theorem dX0_work_35 : decode cX0_work 35 = .ok (.iload 4, 2) := by decide +kernel
theorem dX0_work_37 : decode cX0_work 37 = .ok (.invokevirtual 101, 3) := by decide +kernel
theorem dX0_work_40 : decode cX0_work 40 = .ok (.iinc 3 1, 3) := by decide +kernel
theorem dX0_work_43 : decode cX0_work 43 = .ok (.goto (-32), 3) := by decide +kernel
theorem dX0_work_46 : decode cX0_work 46 = .ok (.iconst 0, 1) := by decide +kernel
theorem dX0_work_47 : decode cX0_work 47 = .ok (.ireturn, 1) := by decide +kernel
theorem dX0_nextOf_0 : decode cX0_nextOf 0 = .ok (.iconst (-1), 1) := by decide +kernel
theorem dX0_nextOf_1 : decode cX0_nextOf 1 = .ok (.istore_n 2, 1) := by decide +kernel
theorem dX0_nextOf_2 : decode cX0_nextOf 2 = .ok (.iconst 0, 1) := by decide +kernel
theorem dX0_nextOf_3 : decode cX0_nextOf 3 = .ok (.istore_n 3, 1) := by decide +kernel
theorem dX0_nextOf_4 : decode cX0_nextOf 4 = .ok (.iload_n 3, 1) := by decide +kernel
theorem dX0_nextOf_5 : decode cX0_nextOf 5 = .ok (.bipush 96, 2) := by decide +kernel
theorem dX0_nextOf_7 : decode cX0_nextOf 7 = .ok (.if_icmp .ge 52, 3) := by decide +kernel
theorem dX0_nextOf_10 : decode cX0_nextOf 10 = .ok (.aload_n 0, 1) := by decide +kernel
theorem dX0_nextOf_11 : decode cX0_nextOf 11 = .ok (.getfield 19, 3) := by decide +kernel
theorem dX0_nextOf_14 : decode cX0_nextOf 14 = .ok (.iload_n 3, 1) := by decide +kernel
theorem dX0_nextOf_15 : decode cX0_nextOf 15 = .ok (.baload, 1) := by decide +kernel
theorem dX0_nextOf_16 : decode cX0_nextOf 16 = .ok (.ifCond .eq 37, 3) := by decide +kernel
theorem dX0_nextOf_19 : decode cX0_nextOf 19 = .ok (.aload_n 0, 1) := by decide +kernel
theorem dX0_nextOf_20 : decode cX0_nextOf 20 = .ok (.getfield 35, 3) := by decide +kernel
theorem dX0_nextOf_23 : decode cX0_nextOf 23 = .ok (.iload_n 3, 1) := by decide +kernel
theorem dX0_nextOf_24 : decode cX0_nextOf 24 = .ok (.baload, 1) := by decide +kernel
theorem dX0_nextOf_25 : decode cX0_nextOf 25 = .ok (.ifCond .ne 28, 3) := by decide +kernel
theorem dX0_nextOf_28 : decode cX0_nextOf 28 = .ok (.aload_n 0, 1) := by decide +kernel
theorem dX0_nextOf_29 : decode cX0_nextOf 29 = .ok (.getfield 26, 3) := by decide +kernel
theorem dX0_nextOf_32 : decode cX0_nextOf 32 = .ok (.iload_n 3, 1) := by decide +kernel
theorem dX0_nextOf_33 : decode cX0_nextOf 33 = .ok (.iaload, 1) := by decide +kernel
theorem dX0_nextOf_34 : decode cX0_nextOf 34 = .ok (.iload_n 1, 1) := by decide +kernel
theorem dX0_nextOf_35 : decode cX0_nextOf 35 = .ok (.if_icmp .ne 18, 3) := by decide +kernel
theorem dX0_nextOf_38 : decode cX0_nextOf 38 = .ok (.iload_n 2, 1) := by decide +kernel
theorem dX0_nextOf_39 : decode cX0_nextOf 39 = .ok (.ifCond .lt 12, 3) := by decide +kernel
theorem dX0_nextOf_42 : decode cX0_nextOf 42 = .ok (.aload_n 0, 1) := by decide +kernel
theorem dX0_nextOf_43 : decode cX0_nextOf 43 = .ok (.iload_n 3, 1) := by decide +kernel
theorem dX0_nextOf_44 : decode cX0_nextOf 44 = .ok (.iload_n 2, 1) := by decide +kernel
theorem dX0_nextOf_45 : decode cX0_nextOf 45 = .ok (.invokevirtual 67, 3) := by decide +kernel
theorem dX0_nextOf_48 : decode cX0_nextOf 48 = .ok (.ifCond .eq 5, 3) := by decide +kernel
theorem dX0_nextOf_51 : decode cX0_nextOf 51 = .ok (.iload_n 3, 1) := by decide +kernel
theorem dX0_nextOf_52 : decode cX0_nextOf 52 = .ok (.istore_n 2, 1) := by decide +kernel
theorem dX0_nextOf_53 : decode cX0_nextOf 53 = .ok (.iinc 3 1, 3) := by decide +kernel
theorem dX0_nextOf_56 : decode cX0_nextOf 56 = .ok (.goto (-52), 3) := by decide +kernel
theorem dX0_nextOf_59 : decode cX0_nextOf 59 = .ok (.iload_n 2, 1) := by decide +kernel
theorem dX0_nextOf_60 : decode cX0_nextOf 60 = .ok (.ireturn, 1) := by decide +kernel
theorem dX0_handle_0 : decode cX0_handle 0 = .ok (.aload_n 0, 1) := by decide +kernel
theorem dX0_handle_1 : decode cX0_handle 1 = .ok (.getfield 26, 3) := by decide +kernel
theorem dX0_handle_4 : decode cX0_handle 4 = .ok (.iload_n 1, 1) := by decide +kernel
theorem dX0_handle_5 : decode cX0_handle 5 = .ok (.iaload, 1) := by decide +kernel
theorem dX0_handle_6 : decode cX0_handle 6 = .ok (.istore_n 2, 1) := by decide +kernel
theorem dX0_handle_7 : decode cX0_handle 7 = .ok (.aload_n 0, 1) := by decide +kernel
theorem dX0_handle_8 : decode cX0_handle 8 = .ok (.getfield 38, 3) := by decide +kernel
theorem dX0_handle_11 : decode cX0_handle 11 = .ok (.iload_n 1, 1) := by decide +kernel
theorem dX0_handle_12 : decode cX0_handle 12 = .ok (.aload_n 0, 1) := by decide +kernel
theorem dX0_handle_13 : decode cX0_handle 13 = .ok (.getfield 44, 3) := by decide +kernel
theorem dX0_handle_16 : decode cX0_handle 16 = .ok (.iload_n 2, 1) := by decide +kernel
theorem dX0_handle_17 : decode cX0_handle 17 = .ok (.iaload, 1) := by decide +kernel
theorem dX0_handle_18 : decode cX0_handle 18 = .ok (.iastore, 1) := by decide +kernel
theorem dX0_handle_19 : decode cX0_handle 19 = .ok (.aload_n 0, 1) := by decide +kernel
theorem dX0_handle_20 : decode cX0_handle 20 = .ok (.getfield 44, 3) := by decide +kernel
theorem dX0_handle_23 : decode cX0_handle 23 = .ok (.iload_n 2, 1) := by decide +kernel
theorem dX0_handle_24 : decode cX0_handle 24 = .ok (.aload_n 0, 1) := by decide +kernel
theorem dX0_handle_25 : decode cX0_handle 25 = .ok (.getfield 44, 3) := by decide +kernel
theorem dX0_handle_28 : decode cX0_handle 28 = .ok (.iload_n 2, 1) := by decide +kernel
theorem dX0_handle_29 : decode cX0_handle 29 = .ok (.iaload, 1) := by decide +kernel
theorem dX0_handle_30 : decode cX0_handle 30 = .ok (.iconst 5, 1) := by decide +kernel
theorem dX0_handle_31 : decode cX0_handle 31 = .ok (.imul, 1) := by decide +kernel
theorem dX0_handle_32 : decode cX0_handle 32 = .ok (.aload_n 0, 1) := by decide +kernel
theorem dX0_handle_33 : decode cX0_handle 33 = .ok (.getfield 29, 3) := by decide +kernel
theorem dX0_handle_36 : decode cX0_handle 36 = .ok (.iload_n 1, 1) := by decide +kernel
theorem dX0_handle_37 : decode cX0_handle 37 = .ok (.iaload, 1) := by decide +kernel
theorem dX0_handle_38 : decode cX0_handle 38 = .ok (.iadd, 1) := by decide +kernel
theorem dX0_handle_39 : decode cX0_handle 39 = .ok (.iconst 1, 1) := by decide +kernel
theorem dX0_handle_40 : decode cX0_handle 40 = .ok (.iadd, 1) := by decide +kernel
theorem dX0_handle_41 : decode cX0_handle 41 = .ok (.iastore, 1) := by decide +kernel
theorem dX0_handle_42 : decode cX0_handle 42 = .ok (.aload_n 0, 1) := by decide +kernel
theorem dX0_handle_43 : decode cX0_handle 43 = .ok (.getfield 35, 3) := by decide +kernel
theorem dX0_handle_46 : decode cX0_handle 46 = .ok (.iload_n 1, 1) := by decide +kernel
theorem dX0_handle_47 : decode cX0_handle 47 = .ok (.iconst 1, 1) := by decide +kernel
theorem dX0_handle_48 : decode cX0_handle 48 = .ok (.bastore, 1) := by decide +kernel
theorem dX0_handle_49 : decode cX0_handle 49 = .ok (.aload_n 0, 1) := by decide +kernel
theorem dX0_handle_50 : decode cX0_handle 50 = .ok (.getfield 32, 3) := by decide +kernel
theorem dX0_handle_53 : decode cX0_handle 53 = .ok (.iload_n 1, 1) := by decide +kernel
theorem dX0_handle_54 : decode cX0_handle 54 = .ok (.iaload, 1) := by decide +kernel
theorem dX0_handle_55 : decode cX0_handle 55 = .ok (.ifCond .le 74, 3) := by decide +kernel
theorem dX0_handle_58 : decode cX0_handle 58 = .ok (.aload_n 0, 1) := by decide +kernel
theorem dX0_handle_59 : decode cX0_handle 59 = .ok (.getfield 44, 3) := by decide +kernel
theorem dX0_handle_62 : decode cX0_handle 62 = .ok (.iload_n 2, 1) := by decide +kernel
theorem dX0_handle_63 : decode cX0_handle 63 = .ok (.iaload, 1) := by decide +kernel
theorem dX0_handle_64 : decode cX0_handle 64 = .ok (.aload_n 0, 1) := by decide +kernel
theorem dX0_handle_65 : decode cX0_handle 65 = .ok (.getfield 16, 3) := by decide +kernel
theorem dX0_handle_68 : decode cX0_handle 68 = .ok (.iload_n 2, 1) := by decide +kernel
theorem dX0_handle_69 : decode cX0_handle 69 = .ok (.iaload, 1) := by decide +kernel
theorem dX0_handle_70 : decode cX0_handle 70 = .ok (.iand, 1) := by decide +kernel
theorem dX0_handle_71 : decode cX0_handle 71 = .ok (.ifCond .ne 58, 3) := by decide +kernel
theorem dX0_handle_74 : decode cX0_handle 74 = .ok (.aload_n 0, 1) := by decide +kernel
theorem dX0_handle_75 : decode cX0_handle 75 = .ok (.aload_n 0, 1) := by decide +kernel
theorem dX0_handle_76 : decode cX0_handle 76 = .ok (.getfield 7, 3) := by decide +kernel
theorem dX0_handle_79 : decode cX0_handle 79 = .ok (.iload_n 2, 1) := by decide +kernel
theorem dX0_handle_80 : decode cX0_handle 80 = .ok (.iaload, 1) := by decide +kernel
theorem dX0_handle_81 : decode cX0_handle 81 = .ok (.aload_n 0, 1) := by decide +kernel
theorem dX0_handle_82 : decode cX0_handle 82 = .ok (.getfield 23, 3) := by decide +kernel
theorem dX0_handle_85 : decode cX0_handle 85 = .ok (.iload_n 1, 1) := by decide +kernel
theorem dX0_handle_86 : decode cX0_handle 86 = .ok (.iaload, 1) := by decide +kernel
theorem dX0_handle_87 : decode cX0_handle 87 = .ok (.aload_n 0, 1) := by decide +kernel
theorem dX0_handle_88 : decode cX0_handle 88 = .ok (.getfield 13, 3) := by decide +kernel
theorem dX0_handle_91 : decode cX0_handle 91 = .ok (.iload_n 2, 1) := by decide +kernel
theorem dX0_handle_92 : decode cX0_handle 92 = .ok (.iaload, 1) := by decide +kernel
theorem dX0_handle_93 : decode cX0_handle 93 = .ok (.iadd, 1) := by decide +kernel
theorem dX0_handle_94 : decode cX0_handle 94 = .ok (.aload_n 0, 1) := by decide +kernel
theorem dX0_handle_95 : decode cX0_handle 95 = .ok (.getfield 44, 3) := by decide +kernel
theorem dX0_handle_98 : decode cX0_handle 98 = .ok (.iload_n 2, 1) := by decide +kernel
theorem dX0_handle_99 : decode cX0_handle 99 = .ok (.iaload, 1) := by decide +kernel
theorem dX0_handle_100 : decode cX0_handle 100 = .ok (.iconst 2, 1) := by decide +kernel
theorem dX0_handle_101 : decode cX0_handle 101 = .ok (.ishr, 1) := by decide +kernel
theorem dX0_handle_102 : decode cX0_handle 102 = .ok (.bipush 15, 2) := by decide +kernel
theorem dX0_handle_104 : decode cX0_handle 104 = .ok (.iand, 1) := by decide +kernel
theorem dX0_handle_105 : decode cX0_handle 105 = .ok (.aload_n 0, 1) := by decide +kernel
theorem dX0_handle_106 : decode cX0_handle 106 = .ok (.getfield 32, 3) := by decide +kernel
theorem dX0_handle_109 : decode cX0_handle 109 = .ok (.iload_n 1, 1) := by decide +kernel
theorem dX0_handle_110 : decode cX0_handle 110 = .ok (.iaload, 1) := by decide +kernel
theorem dX0_handle_111 : decode cX0_handle 111 = .ok (.iconst 1, 1) := by decide +kernel
theorem dX0_handle_112 : decode cX0_handle 112 = .ok (.isub, 1) := by decide +kernel
theorem dX0_handle_113 : decode cX0_handle 113 = .ok (.invokevirtual 88, 3) := by decide +kernel
theorem dX0_handle_116 : decode cX0_handle 116 = .ok (.istore_n 3, 1) := by decide +kernel
theorem dX0_handle_117 : decode cX0_handle 117 = .ok (.aload_n 0, 1) := by decide +kernel
theorem dX0_handle_118 : decode cX0_handle 118 = .ok (.getfield 41, 3) := by decide +kernel
theorem dX0_handle_121 : decode cX0_handle 121 = .ok (.iload_n 1, 1) := by decide +kernel
theorem dX0_handle_122 : decode cX0_handle 122 = .ok (.iload_n 3, 1) := by decide +kernel
theorem dX0_handle_123 : decode cX0_handle 123 = .ok (.iastore, 1) := by decide +kernel
theorem dX0_handle_124 : decode cX0_handle 124 = .ok (.aload_n 0, 1) := by decide +kernel
theorem dX0_handle_125 : decode cX0_handle 125 = .ok (.iload_n 3, 1) := by decide +kernel
theorem dX0_handle_126 : decode cX0_handle 126 = .ok (.invokevirtual 92, 3) := by decide +kernel
theorem dX0_handle_129 : decode cX0_handle 129 = .ok (.return_, 1) := by decide +kernel
theorem dX0_commit_0 : decode cX0_commit 0 = .ok (.iload_n 1, 1) := by decide +kernel
theorem dX0_commit_1 : decode cX0_commit 1 = .ok (.ifCond .lt 10, 3) := by decide +kernel
theorem dX0_commit_4 : decode cX0_commit 4 = .ok (.iload_n 1, 1) := by decide +kernel
theorem dX0_commit_5 : decode cX0_commit 5 = .ok (.sipush 200, 3) := by decide +kernel
theorem dX0_commit_8 : decode cX0_commit 8 = .ok (.if_icmp .le 6, 3) := by decide +kernel
theorem dX0_commit_11 : decode cX0_commit 11 = .ok (.bipush (-2), 2) := by decide +kernel
theorem dX0_commit_13 : decode cX0_commit 13 = .ok (.ireturn, 1) := by decide +kernel
theorem dX0_commit_14 : decode cX0_commit 14 = .ok (.iload_n 1, 1) := by decide +kernel
theorem dX0_commit_15 : decode cX0_commit 15 = .ok (.aload_n 0, 1) := by decide +kernel
theorem dX0_commit_16 : decode cX0_commit 16 = .ok (.getfield 95, 3) := by decide +kernel
theorem dX0_commit_19 : decode cX0_commit 19 = .ok (.if_icmp .ge 6, 3) := by decide +kernel
theorem dX0_commit_22 : decode cX0_commit 22 = .ok (.bipush (-4), 2) := by decide +kernel
theorem dX0_commit_24 : decode cX0_commit 24 = .ok (.ireturn, 1) := by decide +kernel
theorem dX0_commit_25 : decode cX0_commit 25 = .ok (.aload_n 0, 1) := by decide +kernel
theorem dX0_commit_26 : decode cX0_commit 26 = .ok (.iload_n 1, 1) := by decide +kernel
theorem dX0_commit_27 : decode cX0_commit 27 = .ok (.invokevirtual 107, 3) := by decide +kernel
theorem dX0_commit_30 : decode cX0_commit 30 = .ok (.iconst 0, 1) := by decide +kernel
theorem dX0_commit_31 : decode cX0_commit 31 = .ok (.istore_n 2, 1) := by decide +kernel
theorem dX0_commit_32 : decode cX0_commit 32 = .ok (.iconst 0, 1) := by decide +kernel
theorem dX0_commit_33 : decode cX0_commit 33 = .ok (.istore_n 3, 1) := by decide +kernel
theorem dX0_commit_34 : decode cX0_commit 34 = .ok (.iload_n 3, 1) := by decide +kernel
theorem dX0_commit_35 : decode cX0_commit 35 = .ok (.iconst 4, 1) := by decide +kernel
theorem dX0_commit_36 : decode cX0_commit 36 = .ok (.if_icmp .ge 45, 3) := by decide +kernel
theorem dX0_commit_39 : decode cX0_commit 39 = .ok (.aload_n 0, 1) := by decide +kernel
theorem dX0_commit_40 : decode cX0_commit 40 = .ok (.getfield 47, 3) := by decide +kernel
theorem dX0_commit_43 : decode cX0_commit 43 = .ok (.iload_n 3, 1) := by decide +kernel
theorem dX0_commit_44 : decode cX0_commit 44 = .ok (.aload_n 0, 1) := by decide +kernel
theorem dX0_commit_45 : decode cX0_commit 45 = .ok (.iload_n 3, 1) := by decide +kernel
theorem dX0_commit_46 : decode cX0_commit 46 = .ok (.iload_n 1, 1) := by decide +kernel
theorem dX0_commit_47 : decode cX0_commit 47 = .ok (.invokevirtual 110, 3) := by decide +kernel
theorem dX0_commit_50 : decode cX0_commit 50 = .ok (.iastore, 1) := by decide +kernel
theorem dX0_commit_51 : decode cX0_commit 51 = .ok (.aload_n 0, 1) := by decide +kernel
theorem dX0_commit_52 : decode cX0_commit 52 = .ok (.getfield 50, 3) := by decide +kernel
theorem dX0_commit_55 : decode cX0_commit 55 = .ok (.iload_n 3, 1) := by decide +kernel
theorem dX0_commit_56 : decode cX0_commit 56 = .ok (.dup2, 1) := by decide +kernel
theorem dX0_commit_57 : decode cX0_commit 57 = .ok (.iaload, 1) := by decide +kernel
theorem dX0_commit_58 : decode cX0_commit 58 = .ok (.aload_n 0, 1) := by decide +kernel
theorem dX0_commit_59 : decode cX0_commit 59 = .ok (.iload_n 3, 1) := by decide +kernel
theorem dX0_commit_60 : decode cX0_commit 60 = .ok (.iload_n 1, 1) := by decide +kernel
theorem dX0_commit_61 : decode cX0_commit 61 = .ok (.invokevirtual 114, 3) := by decide +kernel
theorem dX0_commit_64 : decode cX0_commit 64 = .ok (.iadd, 1) := by decide +kernel
theorem dX0_commit_65 : decode cX0_commit 65 = .ok (.iastore, 1) := by decide +kernel
theorem dX0_commit_66 : decode cX0_commit 66 = .ok (.iload_n 2, 1) := by decide +kernel
theorem dX0_commit_67 : decode cX0_commit 67 = .ok (.aload_n 0, 1) := by decide +kernel
theorem dX0_commit_68 : decode cX0_commit 68 = .ok (.getfield 50, 3) := by decide +kernel
theorem dX0_commit_71 : decode cX0_commit 71 = .ok (.iload_n 3, 1) := by decide +kernel
theorem dX0_commit_72 : decode cX0_commit 72 = .ok (.iaload, 1) := by decide +kernel
theorem dX0_commit_73 : decode cX0_commit 73 = .ok (.iadd, 1) := by decide +kernel
theorem dX0_commit_74 : decode cX0_commit 74 = .ok (.istore_n 2, 1) := by decide +kernel
theorem dX0_commit_75 : decode cX0_commit 75 = .ok (.iinc 3 1, 3) := by decide +kernel
theorem dX0_commit_78 : decode cX0_commit 78 = .ok (.goto (-44), 3) := by decide +kernel
theorem dX0_commit_81 : decode cX0_commit 81 = .ok (.iconst 0, 1) := by decide +kernel
theorem dX0_commit_82 : decode cX0_commit 82 = .ok (.istore_n 3, 1) := by decide +kernel
theorem dX0_commit_83 : decode cX0_commit 83 = .ok (.iload_n 3, 1) := by decide +kernel
theorem dX0_commit_84 : decode cX0_commit 84 = .ok (.bipush 96, 2) := by decide +kernel
theorem dX0_commit_86 : decode cX0_commit 86 = .ok (.if_icmp .ge 58, 3) := by decide +kernel
theorem dX0_commit_89 : decode cX0_commit 89 = .ok (.aload_n 0, 1) := by decide +kernel
theorem dX0_commit_90 : decode cX0_commit 90 = .ok (.getfield 19, 3) := by decide +kernel
theorem dX0_commit_93 : decode cX0_commit 93 = .ok (.iload_n 3, 1) := by decide +kernel
theorem dX0_commit_94 : decode cX0_commit 94 = .ok (.baload, 1) := by decide +kernel
theorem dX0_commit_95 : decode cX0_commit 95 = .ok (.ifCond .eq 43, 3) := by decide +kernel
theorem dX0_commit_98 : decode cX0_commit 98 = .ok (.aload_n 0, 1) := by decide +kernel
theorem dX0_commit_99 : decode cX0_commit 99 = .ok (.getfield 23, 3) := by decide +kernel
theorem dX0_commit_102 : decode cX0_commit 102 = .ok (.iload_n 3, 1) := by decide +kernel
theorem dX0_commit_103 : decode cX0_commit 103 = .ok (.iaload, 1) := by decide +kernel
theorem dX0_commit_104 : decode cX0_commit 104 = .ok (.iload_n 1, 1) := by decide +kernel
theorem dX0_commit_105 : decode cX0_commit 105 = .ok (.if_icmp .gt 33, 3) := by decide +kernel
theorem dX0_commit_108 : decode cX0_commit 108 = .ok (.aload_n 0, 1) := by decide +kernel
theorem dX0_commit_109 : decode cX0_commit 109 = .ok (.getfield 23, 3) := by decide +kernel
theorem dX0_commit_112 : decode cX0_commit 112 = .ok (.iload_n 3, 1) := by decide +kernel
theorem dX0_commit_113 : decode cX0_commit 113 = .ok (.iaload, 1) := by decide +kernel
theorem dX0_commit_114 : decode cX0_commit 114 = .ok (.aload_n 0, 1) := by decide +kernel
theorem dX0_commit_115 : decode cX0_commit 115 = .ok (.getfield 117, 3) := by decide +kernel
theorem dX0_commit_118 : decode cX0_commit 118 = .ok (.if_icmp .le 13, 3) := by decide +kernel
theorem dX0_commit_121 : decode cX0_commit 121 = .ok (.aload_n 0, 1) := by decide +kernel
theorem dX0_commit_122 : decode cX0_commit 122 = .ok (.aload_n 0, 1) := by decide +kernel
theorem dX0_commit_123 : decode cX0_commit 123 = .ok (.getfield 23, 3) := by decide +kernel
theorem dX0_commit_126 : decode cX0_commit 126 = .ok (.iload_n 3, 1) := by decide +kernel
theorem dX0_commit_127 : decode cX0_commit 127 = .ok (.iaload, 1) := by decide +kernel
theorem dX0_commit_128 : decode cX0_commit 128 = .ok (.putfield 117, 3) := by decide +kernel
theorem dX0_commit_131 : decode cX0_commit 131 = .ok (.aload_n 0, 1) := by decide +kernel
theorem dX0_commit_132 : decode cX0_commit 132 = .ok (.getfield 19, 3) := by decide +kernel
theorem dX0_commit_135 : decode cX0_commit 135 = .ok (.iload_n 3, 1) := by decide +kernel
theorem dX0_commit_136 : decode cX0_commit 136 = .ok (.iconst 0, 1) := by decide +kernel
theorem dX0_commit_137 : decode cX0_commit 137 = .ok (.bastore, 1) := by decide +kernel
theorem dX0_commit_138 : decode cX0_commit 138 = .ok (.iinc 3 1, 3) := by decide +kernel
theorem dX0_commit_141 : decode cX0_commit 141 = .ok (.goto (-58), 3) := by decide +kernel
theorem dX0_commit_144 : decode cX0_commit 144 = .ok (.aload_n 0, 1) := by decide +kernel
theorem dX0_commit_145 : decode cX0_commit 145 = .ok (.iload_n 1, 1) := by decide +kernel
theorem dX0_commit_146 : decode cX0_commit 146 = .ok (.putfield 95, 3) := by decide +kernel
theorem dX0_commit_149 : decode cX0_commit 149 = .ok (.iload_n 2, 1) := by decide +kernel
theorem dX0_commit_150 : decode cX0_commit 150 = .ok (.ireturn, 1) := by decide +kernel
theorem dX0_reach_0 : decode cX0_reach 0 = .ok (.aload_n 0, 1) := by decide +kernel
theorem dX0_reach_1 : decode cX0_reach 1 = .ok (.iload_n 1, 1) := by decide +kernel
theorem dX0_reach_2 : decode cX0_reach 2 = .ok (.invokevirtual 104, 3) := by decide +kernel
theorem dX0_reach_5 : decode cX0_reach 5 = .ok (.istore_n 2, 1) := by decide +kernel
theorem dX0_reach_6 : decode cX0_reach 6 = .ok (.iconst 0, 1) := by decide +kernel
theorem dX0_reach_7 : decode cX0_reach 7 = .ok (.istore_n 3, 1) := by decide +kernel
theorem dX0_reach_8 : decode cX0_reach 8 = .ok (.iload_n 3, 1) := by decide +kernel
theorem dX0_reach_9 : decode cX0_reach 9 = .ok (.sipush 200, 3) := by decide +kernel
theorem dX0_reach_12 : decode cX0_reach 12 = .ok (.if_icmp .ge 24, 3) := by decide +kernel
theorem dX0_reach_15 : decode cX0_reach 15 = .ok (.iload_n 2, 1) := by decide +kernel
theorem dX0_reach_16 : decode cX0_reach 16 = .ok (.ifCond .lt 20, 3) := by decide +kernel
theorem dX0_reach_19 : decode cX0_reach 19 = .ok (.aload_n 0, 1) := by decide +kernel
theorem dX0_reach_20 : decode cX0_reach 20 = .ok (.iload_n 2, 1) := by decide +kernel
theorem dX0_reach_21 : decode cX0_reach 21 = .ok (.invokevirtual 101, 3) := by decide +kernel
theorem dX0_reach_24 : decode cX0_reach 24 = .ok (.aload_n 0, 1) := by decide +kernel
theorem dX0_reach_25 : decode cX0_reach 25 = .ok (.iload_n 1, 1) := by decide +kernel
theorem dX0_reach_26 : decode cX0_reach 26 = .ok (.invokevirtual 104, 3) := by decide +kernel
theorem dX0_reach_29 : decode cX0_reach 29 = .ok (.istore_n 2, 1) := by decide +kernel
theorem dX0_reach_30 : decode cX0_reach 30 = .ok (.iinc 3 1, 3) := by decide +kernel
theorem dX0_reach_33 : decode cX0_reach 33 = .ok (.goto (-25), 3) := by decide +kernel
theorem dX0_reach_36 : decode cX0_reach 36 = .ok (.return_, 1) := by decide +kernel
theorem dX0_earliest_0 : decode cX0_earliest 0 = .ok (.iconst (-1), 1) := by decide +kernel
theorem dX0_earliest_1 : decode cX0_earliest 1 = .ok (.istore_n 2, 1) := by decide +kernel
theorem dX0_earliest_2 : decode cX0_earliest 2 = .ok (.iconst 0, 1) := by decide +kernel
theorem dX0_earliest_3 : decode cX0_earliest 3 = .ok (.istore_n 3, 1) := by decide +kernel
theorem dX0_earliest_4 : decode cX0_earliest 4 = .ok (.iload_n 3, 1) := by decide +kernel
theorem dX0_earliest_5 : decode cX0_earliest 5 = .ok (.iconst 4, 1) := by decide +kernel
theorem dX0_earliest_6 : decode cX0_earliest 6 = .ok (.if_icmp .ge 55, 3) := by decide +kernel
theorem dX0_earliest_9 : decode cX0_earliest 9 = .ok (.aload_n 0, 1) := by decide +kernel
theorem dX0_earliest_10 : decode cX0_earliest 10 = .ok (.iload_n 3, 1) := by decide +kernel
theorem dX0_earliest_11 : decode cX0_earliest 11 = .ok (.invokevirtual 98, 3) := by decide +kernel
theorem dX0_earliest_14 : decode cX0_earliest 14 = .ok (.istore 4, 2) := by decide +kernel
theorem dX0_earliest_16 : decode cX0_earliest 16 = .ok (.iload 4, 2) := by decide +kernel
theorem dX0_earliest_18 : decode cX0_earliest 18 = .ok (.ifCond .lt 37, 3) := by decide +kernel
theorem dX0_earliest_21 : decode cX0_earliest 21 = .ok (.aload_n 0, 1) := by decide +kernel
theorem dX0_earliest_22 : decode cX0_earliest 22 = .ok (.getfield 23, 3) := by decide +kernel
theorem dX0_earliest_25 : decode cX0_earliest 25 = .ok (.iload 4, 2) := by decide +kernel
end
section
set_option maxRecDepth 100000
theorem dX0_earliest_27 : decode cX0_earliest 27 = .ok (.iaload, 1) := by decide +kernel
theorem dX0_earliest_28 : decode cX0_earliest 28 = .ok (.iload_n 1, 1) := by decide +kernel
theorem dX0_earliest_29 : decode cX0_earliest 29 = .ok (.if_icmp .gt 26, 3) := by decide +kernel
theorem dX0_earliest_32 : decode cX0_earliest 32 = .ok (.iload_n 2, 1) := by decide +kernel
theorem dX0_earliest_33 : decode cX0_earliest 33 = .ok (.ifCond .lt 19, 3) := by decide +kernel
theorem dX0_earliest_36 : decode cX0_earliest 36 = .ok (.aload_n 0, 1) := by decide +kernel
theorem dX0_earliest_37 : decode cX0_earliest 37 = .ok (.getfield 23, 3) := by decide +kernel
theorem dX0_earliest_40 : decode cX0_earliest 40 = .ok (.iload 4, 2) := by decide +kernel
theorem dX0_earliest_42 : decode cX0_earliest 42 = .ok (.iaload, 1) := by decide +kernel
theorem dX0_earliest_43 : decode cX0_earliest 43 = .ok (.aload_n 0, 1) := by decide +kernel
theorem dX0_earliest_44 : decode cX0_earliest 44 = .ok (.getfield 23, 3) := by decide +kernel
theorem dX0_earliest_47 : decode cX0_earliest 47 = .ok (.iload_n 2, 1) := by decide +kernel
theorem dX0_earliest_48 : decode cX0_earliest 48 = .ok (.iaload, 1) := by decide +kernel
theorem dX0_earliest_49 : decode cX0_earliest 49 = .ok (.if_icmp .ge 6, 3) := by decide +kernel
theorem dX0_earliest_52 : decode cX0_earliest 52 = .ok (.iload 4, 2) := by decide +kernel
theorem dX0_earliest_54 : decode cX0_earliest 54 = .ok (.istore_n 2, 1) := by decide +kernel
theorem dX0_earliest_55 : decode cX0_earliest 55 = .ok (.iinc 3 1, 3) := by decide +kernel
theorem dX0_earliest_58 : decode cX0_earliest 58 = .ok (.goto (-54), 3) := by decide +kernel
theorem dX0_earliest_61 : decode cX0_earliest 61 = .ok (.iload_n 2, 1) := by decide +kernel
theorem dX0_earliest_62 : decode cX0_earliest 62 = .ok (.ireturn, 1) := by decide +kernel
theorem dX0_stateAt_0 : decode cX0_stateAt 0 = .ok (.iconst (-1), 1) := by decide +kernel
theorem dX0_stateAt_1 : decode cX0_stateAt 1 = .ok (.istore_n 3, 1) := by decide +kernel
theorem dX0_stateAt_2 : decode cX0_stateAt 2 = .ok (.iconst 0, 1) := by decide +kernel
theorem dX0_stateAt_3 : decode cX0_stateAt 3 = .ok (.istore 4, 2) := by decide +kernel
theorem dX0_stateAt_5 : decode cX0_stateAt 5 = .ok (.iload 4, 2) := by decide +kernel
theorem dX0_stateAt_7 : decode cX0_stateAt 7 = .ok (.bipush 96, 2) := by decide +kernel
theorem dX0_stateAt_9 : decode cX0_stateAt 9 = .ok (.if_icmp .ge 68, 3) := by decide +kernel
theorem dX0_stateAt_12 : decode cX0_stateAt 12 = .ok (.aload_n 0, 1) := by decide +kernel
theorem dX0_stateAt_13 : decode cX0_stateAt 13 = .ok (.getfield 19, 3) := by decide +kernel
theorem dX0_stateAt_16 : decode cX0_stateAt 16 = .ok (.iload 4, 2) := by decide +kernel
theorem dX0_stateAt_18 : decode cX0_stateAt 18 = .ok (.baload, 1) := by decide +kernel
theorem dX0_stateAt_19 : decode cX0_stateAt 19 = .ok (.ifCond .eq 52, 3) := by decide +kernel
theorem dX0_stateAt_22 : decode cX0_stateAt 22 = .ok (.aload_n 0, 1) := by decide +kernel
theorem dX0_stateAt_23 : decode cX0_stateAt 23 = .ok (.getfield 35, 3) := by decide +kernel
theorem dX0_stateAt_26 : decode cX0_stateAt 26 = .ok (.iload 4, 2) := by decide +kernel
theorem dX0_stateAt_28 : decode cX0_stateAt 28 = .ok (.baload, 1) := by decide +kernel
theorem dX0_stateAt_29 : decode cX0_stateAt 29 = .ok (.ifCond .eq 42, 3) := by decide +kernel
theorem dX0_stateAt_32 : decode cX0_stateAt 32 = .ok (.aload_n 0, 1) := by decide +kernel
theorem dX0_stateAt_33 : decode cX0_stateAt 33 = .ok (.getfield 26, 3) := by decide +kernel
theorem dX0_stateAt_36 : decode cX0_stateAt 36 = .ok (.iload 4, 2) := by decide +kernel
theorem dX0_stateAt_38 : decode cX0_stateAt 38 = .ok (.iaload, 1) := by decide +kernel
theorem dX0_stateAt_39 : decode cX0_stateAt 39 = .ok (.iload_n 1, 1) := by decide +kernel
theorem dX0_stateAt_40 : decode cX0_stateAt 40 = .ok (.if_icmp .ne 31, 3) := by decide +kernel
theorem dX0_stateAt_43 : decode cX0_stateAt 43 = .ok (.aload_n 0, 1) := by decide +kernel
theorem dX0_stateAt_44 : decode cX0_stateAt 44 = .ok (.getfield 23, 3) := by decide +kernel
theorem dX0_stateAt_47 : decode cX0_stateAt 47 = .ok (.iload 4, 2) := by decide +kernel
theorem dX0_stateAt_49 : decode cX0_stateAt 49 = .ok (.iaload, 1) := by decide +kernel
theorem dX0_stateAt_50 : decode cX0_stateAt 50 = .ok (.iload_n 2, 1) := by decide +kernel
theorem dX0_stateAt_51 : decode cX0_stateAt 51 = .ok (.if_icmp .le 20, 3) := by decide +kernel
theorem dX0_stateAt_54 : decode cX0_stateAt 54 = .ok (.iload_n 3, 1) := by decide +kernel
theorem dX0_stateAt_55 : decode cX0_stateAt 55 = .ok (.ifCond .lt 13, 3) := by decide +kernel
theorem dX0_stateAt_58 : decode cX0_stateAt 58 = .ok (.aload_n 0, 1) := by decide +kernel
theorem dX0_stateAt_59 : decode cX0_stateAt 59 = .ok (.iload 4, 2) := by decide +kernel
theorem dX0_stateAt_61 : decode cX0_stateAt 61 = .ok (.iload_n 3, 1) := by decide +kernel
theorem dX0_stateAt_62 : decode cX0_stateAt 62 = .ok (.invokevirtual 67, 3) := by decide +kernel
theorem dX0_stateAt_65 : decode cX0_stateAt 65 = .ok (.ifCond .eq 6, 3) := by decide +kernel
theorem dX0_stateAt_68 : decode cX0_stateAt 68 = .ok (.iload 4, 2) := by decide +kernel
theorem dX0_stateAt_70 : decode cX0_stateAt 70 = .ok (.istore_n 3, 1) := by decide +kernel
theorem dX0_stateAt_71 : decode cX0_stateAt 71 = .ok (.iinc 4 1, 3) := by decide +kernel
theorem dX0_stateAt_74 : decode cX0_stateAt 74 = .ok (.goto (-69), 3) := by decide +kernel
theorem dX0_stateAt_77 : decode cX0_stateAt 77 = .ok (.iload_n 3, 1) := by decide +kernel
theorem dX0_stateAt_78 : decode cX0_stateAt 78 = .ok (.ifCond .ge 12, 3) := by decide +kernel
theorem dX0_stateAt_81 : decode cX0_stateAt 81 = .ok (.aload_n 0, 1) := by decide +kernel
theorem dX0_stateAt_82 : decode cX0_stateAt 82 = .ok (.getfield 44, 3) := by decide +kernel
theorem dX0_stateAt_85 : decode cX0_stateAt 85 = .ok (.iload_n 1, 1) := by decide +kernel
theorem dX0_stateAt_86 : decode cX0_stateAt 86 = .ok (.iaload, 1) := by decide +kernel
theorem dX0_stateAt_87 : decode cX0_stateAt 87 = .ok (.goto 9, 3) := by decide +kernel
theorem dX0_stateAt_90 : decode cX0_stateAt 90 = .ok (.aload_n 0, 1) := by decide +kernel
theorem dX0_stateAt_91 : decode cX0_stateAt 91 = .ok (.getfield 38, 3) := by decide +kernel
theorem dX0_stateAt_94 : decode cX0_stateAt 94 = .ok (.iload_n 3, 1) := by decide +kernel
theorem dX0_stateAt_95 : decode cX0_stateAt 95 = .ok (.iaload, 1) := by decide +kernel
theorem dX0_stateAt_96 : decode cX0_stateAt 96 = .ok (.ireturn, 1) := by decide +kernel
theorem dX0_countUpTo_0 : decode cX0_countUpTo 0 = .ok (.iconst 0, 1) := by decide +kernel
theorem dX0_countUpTo_1 : decode cX0_countUpTo 1 = .ok (.istore_n 3, 1) := by decide +kernel
theorem dX0_countUpTo_2 : decode cX0_countUpTo 2 = .ok (.iconst 0, 1) := by decide +kernel
theorem dX0_countUpTo_3 : decode cX0_countUpTo 3 = .ok (.istore 4, 2) := by decide +kernel
theorem dX0_countUpTo_5 : decode cX0_countUpTo 5 = .ok (.iload 4, 2) := by decide +kernel
theorem dX0_countUpTo_7 : decode cX0_countUpTo 7 = .ok (.bipush 96, 2) := by decide +kernel
theorem dX0_countUpTo_9 : decode cX0_countUpTo 9 = .ok (.if_icmp .ge 44, 3) := by decide +kernel
theorem dX0_countUpTo_12 : decode cX0_countUpTo 12 = .ok (.aload_n 0, 1) := by decide +kernel
theorem dX0_countUpTo_13 : decode cX0_countUpTo 13 = .ok (.getfield 19, 3) := by decide +kernel
theorem dX0_countUpTo_16 : decode cX0_countUpTo 16 = .ok (.iload 4, 2) := by decide +kernel
theorem dX0_countUpTo_18 : decode cX0_countUpTo 18 = .ok (.baload, 1) := by decide +kernel
theorem dX0_countUpTo_19 : decode cX0_countUpTo 19 = .ok (.ifCond .eq 28, 3) := by decide +kernel
theorem dX0_countUpTo_22 : decode cX0_countUpTo 22 = .ok (.aload_n 0, 1) := by decide +kernel
theorem dX0_countUpTo_23 : decode cX0_countUpTo 23 = .ok (.getfield 26, 3) := by decide +kernel
theorem dX0_countUpTo_26 : decode cX0_countUpTo 26 = .ok (.iload 4, 2) := by decide +kernel
theorem dX0_countUpTo_28 : decode cX0_countUpTo 28 = .ok (.iaload, 1) := by decide +kernel
theorem dX0_countUpTo_29 : decode cX0_countUpTo 29 = .ok (.iload_n 1, 1) := by decide +kernel
theorem dX0_countUpTo_30 : decode cX0_countUpTo 30 = .ok (.if_icmp .ne 17, 3) := by decide +kernel
theorem dX0_countUpTo_33 : decode cX0_countUpTo 33 = .ok (.aload_n 0, 1) := by decide +kernel
theorem dX0_countUpTo_34 : decode cX0_countUpTo 34 = .ok (.getfield 23, 3) := by decide +kernel
theorem dX0_countUpTo_37 : decode cX0_countUpTo 37 = .ok (.iload 4, 2) := by decide +kernel
theorem dX0_countUpTo_39 : decode cX0_countUpTo 39 = .ok (.iaload, 1) := by decide +kernel
theorem dX0_countUpTo_40 : decode cX0_countUpTo 40 = .ok (.iload_n 2, 1) := by decide +kernel
theorem dX0_countUpTo_41 : decode cX0_countUpTo 41 = .ok (.if_icmp .gt 6, 3) := by decide +kernel
theorem dX0_countUpTo_44 : decode cX0_countUpTo 44 = .ok (.iinc 3 1, 3) := by decide +kernel
theorem dX0_countUpTo_47 : decode cX0_countUpTo 47 = .ok (.iinc 4 1, 3) := by decide +kernel
theorem dX0_countUpTo_50 : decode cX0_countUpTo 50 = .ok (.goto (-45), 3) := by decide +kernel
theorem dX0_countUpTo_53 : decode cX0_countUpTo 53 = .ok (.iload_n 3, 1) := by decide +kernel
theorem dX0_countUpTo_54 : decode cX0_countUpTo 54 = .ok (.ireturn, 1) := by decide +kernel
theorem dX0_state_0 : decode cX0_state 0 = .ok (.iload_n 1, 1) := by decide +kernel
theorem dX0_state_1 : decode cX0_state 1 = .ok (.invokestatic 59, 3) := by decide +kernel
theorem dX0_state_4 : decode cX0_state 4 = .ok (.ifCond .ne 11, 3) := by decide +kernel
theorem dX0_state_7 : decode cX0_state 7 = .ok (.aload_n 0, 1) := by decide +kernel
theorem dX0_state_8 : decode cX0_state 8 = .ok (.iload_n 2, 1) := by decide +kernel
theorem dX0_state_9 : decode cX0_state 9 = .ok (.invokevirtual 120, 3) := by decide +kernel
theorem dX0_state_12 : decode cX0_state 12 = .ok (.ifCond .eq 5, 3) := by decide +kernel
theorem dX0_state_15 : decode cX0_state 15 = .ok (.iconst 0, 1) := by decide +kernel
theorem dX0_state_16 : decode cX0_state 16 = .ok (.ireturn, 1) := by decide +kernel
theorem dX0_state_17 : decode cX0_state 17 = .ok (.iload_n 2, 1) := by decide +kernel
theorem dX0_state_18 : decode cX0_state 18 = .ok (.aload_n 0, 1) := by decide +kernel
theorem dX0_state_19 : decode cX0_state 19 = .ok (.getfield 95, 3) := by decide +kernel
theorem dX0_state_22 : decode cX0_state 22 = .ok (.if_icmp .ne 10, 3) := by decide +kernel
theorem dX0_state_25 : decode cX0_state 25 = .ok (.aload_n 0, 1) := by decide +kernel
theorem dX0_state_26 : decode cX0_state 26 = .ok (.getfield 47, 3) := by decide +kernel
theorem dX0_state_29 : decode cX0_state 29 = .ok (.iload_n 1, 1) := by decide +kernel
theorem dX0_state_30 : decode cX0_state 30 = .ok (.iaload, 1) := by decide +kernel
theorem dX0_state_31 : decode cX0_state 31 = .ok (.ireturn, 1) := by decide +kernel
theorem dX0_state_32 : decode cX0_state 32 = .ok (.aload_n 0, 1) := by decide +kernel
theorem dX0_state_33 : decode cX0_state 33 = .ok (.iload_n 2, 1) := by decide +kernel
theorem dX0_state_34 : decode cX0_state 34 = .ok (.invokevirtual 107, 3) := by decide +kernel
theorem dX0_state_37 : decode cX0_state 37 = .ok (.aload_n 0, 1) := by decide +kernel
theorem dX0_state_38 : decode cX0_state 38 = .ok (.iload_n 1, 1) := by decide +kernel
theorem dX0_state_39 : decode cX0_state 39 = .ok (.iload_n 2, 1) := by decide +kernel
theorem dX0_state_40 : decode cX0_state 40 = .ok (.invokevirtual 110, 3) := by decide +kernel
theorem dX0_state_43 : decode cX0_state 43 = .ok (.ireturn, 1) := by decide +kernel
theorem dX0_badTime_0 : decode cX0_badTime 0 = .ok (.iload_n 1, 1) := by decide +kernel
theorem dX0_badTime_1 : decode cX0_badTime 1 = .ok (.aload_n 0, 1) := by decide +kernel
theorem dX0_badTime_2 : decode cX0_badTime 2 = .ok (.getfield 95, 3) := by decide +kernel
theorem dX0_badTime_5 : decode cX0_badTime 5 = .ok (.if_icmp .lt 10, 3) := by decide +kernel
theorem dX0_badTime_8 : decode cX0_badTime 8 = .ok (.iload_n 1, 1) := by decide +kernel
theorem dX0_badTime_9 : decode cX0_badTime 9 = .ok (.sipush 200, 3) := by decide +kernel
theorem dX0_badTime_12 : decode cX0_badTime 12 = .ok (.if_icmp .le 7, 3) := by decide +kernel
theorem dX0_badTime_15 : decode cX0_badTime 15 = .ok (.iconst 1, 1) := by decide +kernel
theorem dX0_badTime_16 : decode cX0_badTime 16 = .ok (.goto 4, 3) := by decide +kernel
theorem dX0_badTime_19 : decode cX0_badTime 19 = .ok (.iconst 0, 1) := by decide +kernel
theorem dX0_badTime_20 : decode cX0_badTime 20 = .ok (.ireturn, 1) := by decide +kernel
theorem dX0_handled_0 : decode cX0_handled 0 = .ok (.iload_n 1, 1) := by decide +kernel
theorem dX0_handled_1 : decode cX0_handled 1 = .ok (.invokestatic 59, 3) := by decide +kernel
theorem dX0_handled_4 : decode cX0_handled 4 = .ok (.ifCond .eq 5, 3) := by decide +kernel
theorem dX0_handled_7 : decode cX0_handled 7 = .ok (.iconst (-1), 1) := by decide +kernel
theorem dX0_handled_8 : decode cX0_handled 8 = .ok (.ireturn, 1) := by decide +kernel
theorem dX0_handled_9 : decode cX0_handled 9 = .ok (.aload_n 0, 1) := by decide +kernel
theorem dX0_handled_10 : decode cX0_handled 10 = .ok (.iload_n 2, 1) := by decide +kernel
theorem dX0_handled_11 : decode cX0_handled 11 = .ok (.invokevirtual 120, 3) := by decide +kernel
theorem dX0_handled_14 : decode cX0_handled 14 = .ok (.ifCond .eq 6, 3) := by decide +kernel
theorem dX0_handled_17 : decode cX0_handled 17 = .ok (.bipush (-4), 2) := by decide +kernel
theorem dX0_handled_19 : decode cX0_handled 19 = .ok (.ireturn, 1) := by decide +kernel
theorem dX0_handled_20 : decode cX0_handled 20 = .ok (.aload_n 0, 1) := by decide +kernel
theorem dX0_handled_21 : decode cX0_handled 21 = .ok (.iload_n 2, 1) := by decide +kernel
theorem dX0_handled_22 : decode cX0_handled 22 = .ok (.invokevirtual 107, 3) := by decide +kernel
theorem dX0_handled_25 : decode cX0_handled 25 = .ok (.aload_n 0, 1) := by decide +kernel
theorem dX0_handled_26 : decode cX0_handled 26 = .ok (.getfield 50, 3) := by decide +kernel
theorem dX0_handled_29 : decode cX0_handled 29 = .ok (.iload_n 1, 1) := by decide +kernel
theorem dX0_handled_30 : decode cX0_handled 30 = .ok (.iaload, 1) := by decide +kernel
theorem dX0_handled_31 : decode cX0_handled 31 = .ok (.aload_n 0, 1) := by decide +kernel
theorem dX0_handled_32 : decode cX0_handled 32 = .ok (.iload_n 1, 1) := by decide +kernel
theorem dX0_handled_33 : decode cX0_handled 33 = .ok (.iload_n 2, 1) := by decide +kernel
theorem dX0_handled_34 : decode cX0_handled 34 = .ok (.invokevirtual 114, 3) := by decide +kernel
theorem dX0_handled_37 : decode cX0_handled 37 = .ok (.iadd, 1) := by decide +kernel
theorem dX0_handled_38 : decode cX0_handled 38 = .ok (.ireturn, 1) := by decide +kernel
theorem dX0_lastTime_0 : decode cX0_lastTime 0 = .ok (.aload_n 0, 1) := by decide +kernel
theorem dX0_lastTime_1 : decode cX0_lastTime 1 = .ok (.sipush 200, 3) := by decide +kernel
theorem dX0_lastTime_4 : decode cX0_lastTime 4 = .ok (.invokevirtual 107, 3) := by decide +kernel
theorem dX0_lastTime_7 : decode cX0_lastTime 7 = .ok (.aload_n 0, 1) := by decide +kernel
theorem dX0_lastTime_8 : decode cX0_lastTime 8 = .ok (.getfield 117, 3) := by decide +kernel
theorem dX0_lastTime_11 : decode cX0_lastTime 11 = .ok (.istore_n 1, 1) := by decide +kernel
theorem dX0_lastTime_12 : decode cX0_lastTime 12 = .ok (.iconst 0, 1) := by decide +kernel
theorem dX0_lastTime_13 : decode cX0_lastTime 13 = .ok (.istore_n 2, 1) := by decide +kernel
theorem dX0_lastTime_14 : decode cX0_lastTime 14 = .ok (.iload_n 2, 1) := by decide +kernel
theorem dX0_lastTime_15 : decode cX0_lastTime 15 = .ok (.bipush 96, 2) := by decide +kernel
theorem dX0_lastTime_17 : decode cX0_lastTime 17 = .ok (.if_icmp .ge 35, 3) := by decide +kernel
theorem dX0_lastTime_20 : decode cX0_lastTime 20 = .ok (.aload_n 0, 1) := by decide +kernel
theorem dX0_lastTime_21 : decode cX0_lastTime 21 = .ok (.getfield 19, 3) := by decide +kernel
theorem dX0_lastTime_24 : decode cX0_lastTime 24 = .ok (.iload_n 2, 1) := by decide +kernel
theorem dX0_lastTime_25 : decode cX0_lastTime 25 = .ok (.baload, 1) := by decide +kernel
theorem dX0_lastTime_26 : decode cX0_lastTime 26 = .ok (.ifCond .eq 20, 3) := by decide +kernel
theorem dX0_lastTime_29 : decode cX0_lastTime 29 = .ok (.aload_n 0, 1) := by decide +kernel
theorem dX0_lastTime_30 : decode cX0_lastTime 30 = .ok (.getfield 23, 3) := by decide +kernel
theorem dX0_lastTime_33 : decode cX0_lastTime 33 = .ok (.iload_n 2, 1) := by decide +kernel
theorem dX0_lastTime_34 : decode cX0_lastTime 34 = .ok (.iaload, 1) := by decide +kernel
theorem dX0_lastTime_35 : decode cX0_lastTime 35 = .ok (.iload_n 1, 1) := by decide +kernel
theorem dX0_lastTime_36 : decode cX0_lastTime 36 = .ok (.if_icmp .le 10, 3) := by decide +kernel
theorem dX0_lastTime_39 : decode cX0_lastTime 39 = .ok (.aload_n 0, 1) := by decide +kernel
theorem dX0_lastTime_40 : decode cX0_lastTime 40 = .ok (.getfield 23, 3) := by decide +kernel
theorem dX0_lastTime_43 : decode cX0_lastTime 43 = .ok (.iload_n 2, 1) := by decide +kernel
theorem dX0_lastTime_44 : decode cX0_lastTime 44 = .ok (.iaload, 1) := by decide +kernel
theorem dX0_lastTime_45 : decode cX0_lastTime 45 = .ok (.istore_n 1, 1) := by decide +kernel
theorem dX0_lastTime_46 : decode cX0_lastTime 46 = .ok (.iinc 2 1, 3) := by decide +kernel
theorem dX0_lastTime_49 : decode cX0_lastTime 49 = .ok (.goto (-35), 3) := by decide +kernel
theorem dX0_lastTime_52 : decode cX0_lastTime 52 = .ok (.iload_n 1, 1) := by decide +kernel
theorem dX0_lastTime_53 : decode cX0_lastTime 53 = .ok (.ireturn, 1) := by decide +kernel
theorem dX0_events_0 : decode cX0_events 0 = .ok (.aload_n 0, 1) := by decide +kernel
theorem dX0_events_1 : decode cX0_events 1 = .ok (.sipush 200, 3) := by decide +kernel
theorem dX0_events_4 : decode cX0_events 4 = .ok (.invokevirtual 107, 3) := by decide +kernel
theorem dX0_events_7 : decode cX0_events 7 = .ok (.iconst 0, 1) := by decide +kernel
theorem dX0_events_8 : decode cX0_events 8 = .ok (.istore_n 1, 1) := by decide +kernel
theorem dX0_events_9 : decode cX0_events 9 = .ok (.iconst 0, 1) := by decide +kernel
theorem dX0_events_10 : decode cX0_events 10 = .ok (.istore_n 2, 1) := by decide +kernel
theorem dX0_events_11 : decode cX0_events 11 = .ok (.iload_n 2, 1) := by decide +kernel
theorem dX0_events_12 : decode cX0_events 12 = .ok (.iconst 4, 1) := by decide +kernel
theorem dX0_events_13 : decode cX0_events 13 = .ok (.if_icmp .ge 27, 3) := by decide +kernel
theorem dX0_events_16 : decode cX0_events 16 = .ok (.iload_n 1, 1) := by decide +kernel
theorem dX0_events_17 : decode cX0_events 17 = .ok (.aload_n 0, 1) := by decide +kernel
theorem dX0_events_18 : decode cX0_events 18 = .ok (.getfield 50, 3) := by decide +kernel
theorem dX0_events_21 : decode cX0_events 21 = .ok (.iload_n 2, 1) := by decide +kernel
theorem dX0_events_22 : decode cX0_events 22 = .ok (.iaload, 1) := by decide +kernel
theorem dX0_events_23 : decode cX0_events 23 = .ok (.aload_n 0, 1) := by decide +kernel
theorem dX0_events_24 : decode cX0_events 24 = .ok (.iload_n 2, 1) := by decide +kernel
theorem dX0_events_25 : decode cX0_events 25 = .ok (.sipush 200, 3) := by decide +kernel
theorem dX0_events_28 : decode cX0_events 28 = .ok (.invokevirtual 114, 3) := by decide +kernel
theorem dX0_events_31 : decode cX0_events 31 = .ok (.iadd, 1) := by decide +kernel
theorem dX0_events_32 : decode cX0_events 32 = .ok (.iadd, 1) := by decide +kernel
theorem dX0_events_33 : decode cX0_events 33 = .ok (.istore_n 1, 1) := by decide +kernel
theorem dX0_events_34 : decode cX0_events 34 = .ok (.iinc 2 1, 3) := by decide +kernel
theorem dX0_events_37 : decode cX0_events 37 = .ok (.goto (-26), 3) := by decide +kernel
theorem dX0_events_40 : decode cX0_events 40 = .ok (.iload_n 1, 1) := by decide +kernel
theorem dX0_events_41 : decode cX0_events 41 = .ok (.ireturn, 1) := by decide +kernel
theorem dX0_horizon_0 : decode cX0_horizon 0 = .ok (.aload_n 0, 1) := by decide +kernel
theorem dX0_horizon_1 : decode cX0_horizon 1 = .ok (.getfield 95, 3) := by decide +kernel
theorem dX0_horizon_4 : decode cX0_horizon 4 = .ok (.ireturn, 1) := by decide +kernel
end
section
set_option maxRecDepth 100000
theorem dX1_init_0 : decode cX1_init 0 = .ok (.aload_n 0, 1) := by decide +kernel
theorem dX1_init_1 : decode cX1_init 1 = .ok (.invokespecial 1, 3) := by decide +kernel
theorem dX1_init_4 : decode cX1_init 4 = .ok (.aload_n 0, 1) := by decide +kernel
theorem dX1_init_5 : decode cX1_init 5 = .ok (.iconst 4, 1) := by decide +kernel
theorem dX1_init_6 : decode cX1_init 6 = .ok (.newarray .int, 2) := by decide +kernel
theorem dX1_init_8 : decode cX1_init 8 = .ok (.putfield 7, 3) := by decide +kernel
theorem dX1_init_11 : decode cX1_init 11 = .ok (.aload_n 0, 1) := by decide +kernel
theorem dX1_init_12 : decode cX1_init 12 = .ok (.iconst 4, 1) := by decide +kernel
theorem dX1_init_13 : decode cX1_init 13 = .ok (.newarray .int, 2) := by decide +kernel
theorem dX1_init_15 : decode cX1_init 15 = .ok (.putfield 13, 3) := by decide +kernel
theorem dX1_init_18 : decode cX1_init 18 = .ok (.aload_n 0, 1) := by decide +kernel
theorem dX1_init_19 : decode cX1_init 19 = .ok (.iconst 4, 1) := by decide +kernel
theorem dX1_init_20 : decode cX1_init 20 = .ok (.newarray .int, 2) := by decide +kernel
theorem dX1_init_22 : decode cX1_init 22 = .ok (.putfield 16, 3) := by decide +kernel
theorem dX1_init_25 : decode cX1_init 25 = .ok (.aload_n 0, 1) := by decide +kernel
theorem dX1_init_26 : decode cX1_init 26 = .ok (.bipush 96, 2) := by decide +kernel
theorem dX1_init_28 : decode cX1_init 28 = .ok (.newarray .int, 2) := by decide +kernel
theorem dX1_init_30 : decode cX1_init 30 = .ok (.putfield 19, 3) := by decide +kernel
theorem dX1_init_33 : decode cX1_init 33 = .ok (.aload_n 0, 1) := by decide +kernel
theorem dX1_init_34 : decode cX1_init 34 = .ok (.bipush 96, 2) := by decide +kernel
theorem dX1_init_36 : decode cX1_init 36 = .ok (.newarray .int, 2) := by decide +kernel
theorem dX1_init_38 : decode cX1_init 38 = .ok (.putfield 22, 3) := by decide +kernel
theorem dX1_init_41 : decode cX1_init 41 = .ok (.aload_n 0, 1) := by decide +kernel
theorem dX1_init_42 : decode cX1_init 42 = .ok (.bipush 96, 2) := by decide +kernel
theorem dX1_init_44 : decode cX1_init 44 = .ok (.newarray .int, 2) := by decide +kernel
theorem dX1_init_46 : decode cX1_init 46 = .ok (.putfield 25, 3) := by decide +kernel
theorem dX1_init_49 : decode cX1_init 49 = .ok (.aload_n 0, 1) := by decide +kernel
theorem dX1_init_50 : decode cX1_init 50 = .ok (.bipush 96, 2) := by decide +kernel
theorem dX1_init_52 : decode cX1_init 52 = .ok (.newarray .int, 2) := by decide +kernel
theorem dX1_init_54 : decode cX1_init 54 = .ok (.putfield 28, 3) := by decide +kernel
theorem dX1_init_57 : decode cX1_init 57 = .ok (.aload_n 0, 1) := by decide +kernel
theorem dX1_init_58 : decode cX1_init 58 = .ok (.bipush 96, 2) := by decide +kernel
theorem dX1_init_60 : decode cX1_init 60 = .ok (.newarray .boolean, 2) := by decide +kernel
theorem dX1_init_62 : decode cX1_init 62 = .ok (.putfield 31, 3) := by decide +kernel
theorem dX1_init_65 : decode cX1_init 65 = .ok (.aload_n 0, 1) := by decide +kernel
theorem dX1_init_66 : decode cX1_init 66 = .ok (.iconst 4, 1) := by decide +kernel
theorem dX1_init_67 : decode cX1_init 67 = .ok (.newarray .int, 2) := by decide +kernel
theorem dX1_init_69 : decode cX1_init 69 = .ok (.putfield 35, 3) := by decide +kernel
theorem dX1_init_72 : decode cX1_init 72 = .ok (.aload_n 0, 1) := by decide +kernel
theorem dX1_init_73 : decode cX1_init 73 = .ok (.iconst 4, 1) := by decide +kernel
theorem dX1_init_74 : decode cX1_init 74 = .ok (.newarray .int, 2) := by decide +kernel
theorem dX1_init_76 : decode cX1_init 76 = .ok (.putfield 38, 3) := by decide +kernel
theorem dX1_init_79 : decode cX1_init 79 = .ok (.iconst 0, 1) := by decide +kernel
theorem dX1_init_80 : decode cX1_init 80 = .ok (.istore_n 1, 1) := by decide +kernel
theorem dX1_init_81 : decode cX1_init 81 = .ok (.iload_n 1, 1) := by decide +kernel
theorem dX1_init_82 : decode cX1_init 82 = .ok (.iconst 4, 1) := by decide +kernel
theorem dX1_init_83 : decode cX1_init 83 = .ok (.if_icmp .ge 24, 3) := by decide +kernel
theorem dX1_init_86 : decode cX1_init 86 = .ok (.aload_n 0, 1) := by decide +kernel
theorem dX1_init_87 : decode cX1_init 87 = .ok (.getfield 13, 3) := by decide +kernel
theorem dX1_init_90 : decode cX1_init 90 = .ok (.iload_n 1, 1) := by decide +kernel
theorem dX1_init_91 : decode cX1_init 91 = .ok (.iconst 1, 1) := by decide +kernel
theorem dX1_init_92 : decode cX1_init 92 = .ok (.iastore, 1) := by decide +kernel
theorem dX1_init_93 : decode cX1_init 93 = .ok (.aload_n 0, 1) := by decide +kernel
theorem dX1_init_94 : decode cX1_init 94 = .ok (.getfield 16, 3) := by decide +kernel
theorem dX1_init_97 : decode cX1_init 97 = .ok (.iload_n 1, 1) := by decide +kernel
theorem dX1_init_98 : decode cX1_init 98 = .ok (.bipush 15, 2) := by decide +kernel
theorem dX1_init_100 : decode cX1_init 100 = .ok (.iastore, 1) := by decide +kernel
theorem dX1_init_101 : decode cX1_init 101 = .ok (.iinc 1 1, 3) := by decide +kernel
theorem dX1_init_104 : decode cX1_init 104 = .ok (.goto (-23), 3) := by decide +kernel
theorem dX1_init_107 : decode cX1_init 107 = .ok (.aload_n 0, 1) := by decide +kernel
theorem dX1_init_108 : decode cX1_init 108 = .ok (.iconst (-1), 1) := by decide +kernel
theorem dX1_init_109 : decode cX1_init 109 = .ok (.putfield 41, 3) := by decide +kernel
theorem dX1_init_112 : decode cX1_init 112 = .ok (.return_, 1) := by decide +kernel
theorem dX1_rule_0 : decode cX1_rule 0 = .ok (.aload_n 0, 1) := by decide +kernel
theorem dX1_rule_1 : decode cX1_rule 1 = .ok (.iload_n 1, 1) := by decide +kernel
theorem dX1_rule_2 : decode cX1_rule 2 = .ok (.invokevirtual 45, 3) := by decide +kernel
theorem dX1_rule_5 : decode cX1_rule 5 = .ok (.ifCond .ne 11, 3) := by decide +kernel
theorem dX1_rule_8 : decode cX1_rule 8 = .ok (.aload_n 0, 1) := by decide +kernel
theorem dX1_rule_9 : decode cX1_rule 9 = .ok (.iload_n 2, 1) := by decide +kernel
theorem dX1_rule_10 : decode cX1_rule 10 = .ok (.invokevirtual 45, 3) := by decide +kernel
theorem dX1_rule_13 : decode cX1_rule 13 = .ok (.ifCond .eq 5, 3) := by decide +kernel
theorem dX1_rule_16 : decode cX1_rule 16 = .ok (.iconst (-1), 1) := by decide +kernel
theorem dX1_rule_17 : decode cX1_rule 17 = .ok (.ireturn, 1) := by decide +kernel
theorem dX1_rule_18 : decode cX1_rule 18 = .ok (.iload_n 3, 1) := by decide +kernel
theorem dX1_rule_19 : decode cX1_rule 19 = .ok (.iconst 1, 1) := by decide +kernel
theorem dX1_rule_20 : decode cX1_rule 20 = .ok (.if_icmp .lt 21, 3) := by decide +kernel
theorem dX1_rule_23 : decode cX1_rule 23 = .ok (.iload_n 3, 1) := by decide +kernel
theorem dX1_rule_24 : decode cX1_rule 24 = .ok (.bipush 9, 2) := by decide +kernel
theorem dX1_rule_26 : decode cX1_rule 26 = .ok (.if_icmp .gt 15, 3) := by decide +kernel
theorem dX1_rule_29 : decode cX1_rule 29 = .ok (.iload 4, 2) := by decide +kernel
theorem dX1_rule_31 : decode cX1_rule 31 = .ok (.ifCond .lt 10, 3) := by decide +kernel
theorem dX1_rule_34 : decode cX1_rule 34 = .ok (.iload 4, 2) := by decide +kernel
theorem dX1_rule_36 : decode cX1_rule 36 = .ok (.bipush 15, 2) := by decide +kernel
theorem dX1_rule_38 : decode cX1_rule 38 = .ok (.if_icmp .le 6, 3) := by decide +kernel
theorem dX1_rule_41 : decode cX1_rule 41 = .ok (.bipush (-2), 2) := by decide +kernel
theorem dX1_rule_43 : decode cX1_rule 43 = .ok (.ireturn, 1) := by decide +kernel
theorem dX1_rule_44 : decode cX1_rule 44 = .ok (.aload_n 0, 1) := by decide +kernel
theorem dX1_rule_45 : decode cX1_rule 45 = .ok (.getfield 49, 3) := by decide +kernel
theorem dX1_rule_48 : decode cX1_rule 48 = .ok (.ifCond .le 6, 3) := by decide +kernel
theorem dX1_rule_51 : decode cX1_rule 51 = .ok (.bipush (-5), 2) := by decide +kernel
theorem dX1_rule_53 : decode cX1_rule 53 = .ok (.ireturn, 1) := by decide +kernel
theorem dX1_rule_54 : decode cX1_rule 54 = .ok (.aload_n 0, 1) := by decide +kernel
theorem dX1_rule_55 : decode cX1_rule 55 = .ok (.getfield 7, 3) := by decide +kernel
theorem dX1_rule_58 : decode cX1_rule 58 = .ok (.iload_n 1, 1) := by decide +kernel
theorem dX1_rule_59 : decode cX1_rule 59 = .ok (.iload_n 2, 1) := by decide +kernel
theorem dX1_rule_60 : decode cX1_rule 60 = .ok (.iastore, 1) := by decide +kernel
theorem dX1_rule_61 : decode cX1_rule 61 = .ok (.aload_n 0, 1) := by decide +kernel
theorem dX1_rule_62 : decode cX1_rule 62 = .ok (.getfield 13, 3) := by decide +kernel
theorem dX1_rule_65 : decode cX1_rule 65 = .ok (.iload_n 1, 1) := by decide +kernel
theorem dX1_rule_66 : decode cX1_rule 66 = .ok (.iload_n 3, 1) := by decide +kernel
theorem dX1_rule_67 : decode cX1_rule 67 = .ok (.iastore, 1) := by decide +kernel
theorem dX1_rule_68 : decode cX1_rule 68 = .ok (.aload_n 0, 1) := by decide +kernel
theorem dX1_rule_69 : decode cX1_rule 69 = .ok (.getfield 16, 3) := by decide +kernel
theorem dX1_rule_72 : decode cX1_rule 72 = .ok (.iload_n 1, 1) := by decide +kernel
theorem dX1_rule_73 : decode cX1_rule 73 = .ok (.iload 4, 2) := by decide +kernel
theorem dX1_rule_75 : decode cX1_rule 75 = .ok (.iastore, 1) := by decide +kernel
theorem dX1_rule_76 : decode cX1_rule 76 = .ok (.iconst 0, 1) := by decide +kernel
theorem dX1_rule_77 : decode cX1_rule 77 = .ok (.ireturn, 1) := by decide +kernel
theorem dX1_bad_0 : decode cX1_bad 0 = .ok (.iload_n 1, 1) := by decide +kernel
theorem dX1_bad_1 : decode cX1_bad 1 = .ok (.ifCond .lt 8, 3) := by decide +kernel
theorem dX1_bad_4 : decode cX1_bad 4 = .ok (.iload_n 1, 1) := by decide +kernel
theorem dX1_bad_5 : decode cX1_bad 5 = .ok (.iconst 3, 1) := by decide +kernel
theorem dX1_bad_6 : decode cX1_bad 6 = .ok (.if_icmp .le 7, 3) := by decide +kernel
theorem dX1_bad_9 : decode cX1_bad 9 = .ok (.iconst 1, 1) := by decide +kernel
theorem dX1_bad_10 : decode cX1_bad 10 = .ok (.goto 4, 3) := by decide +kernel
theorem dX1_bad_13 : decode cX1_bad 13 = .ok (.iconst 0, 1) := by decide +kernel
theorem dX1_bad_14 : decode cX1_bad 14 = .ok (.ireturn, 1) := by decide +kernel
theorem dX1_inject_0 : decode cX1_inject 0 = .ok (.aload_n 0, 1) := by decide +kernel
theorem dX1_inject_1 : decode cX1_inject 1 = .ok (.iload_n 1, 1) := by decide +kernel
theorem dX1_inject_2 : decode cX1_inject 2 = .ok (.invokevirtual 45, 3) := by decide +kernel
theorem dX1_inject_5 : decode cX1_inject 5 = .ok (.ifCond .eq 5, 3) := by decide +kernel
theorem dX1_inject_8 : decode cX1_inject 8 = .ok (.iconst (-1), 1) := by decide +kernel
theorem dX1_inject_9 : decode cX1_inject 9 = .ok (.ireturn, 1) := by decide +kernel
theorem dX1_inject_10 : decode cX1_inject 10 = .ok (.iload_n 2, 1) := by decide +kernel
theorem dX1_inject_11 : decode cX1_inject 11 = .ok (.ifCond .lt 9, 3) := by decide +kernel
theorem dX1_inject_14 : decode cX1_inject 14 = .ok (.iload_n 2, 1) := by decide +kernel
theorem dX1_inject_15 : decode cX1_inject 15 = .ok (.bipush 99, 2) := by decide +kernel
theorem dX1_inject_17 : decode cX1_inject 17 = .ok (.if_icmp .le 6, 3) := by decide +kernel
theorem dX1_inject_20 : decode cX1_inject 20 = .ok (.bipush (-2), 2) := by decide +kernel
theorem dX1_inject_22 : decode cX1_inject 22 = .ok (.ireturn, 1) := by decide +kernel
theorem dX1_inject_23 : decode cX1_inject 23 = .ok (.iload_n 2, 1) := by decide +kernel
theorem dX1_inject_24 : decode cX1_inject 24 = .ok (.aload_n 0, 1) := by decide +kernel
theorem dX1_inject_25 : decode cX1_inject 25 = .ok (.getfield 41, 3) := by decide +kernel
theorem dX1_inject_28 : decode cX1_inject 28 = .ok (.if_icmp .gt 6, 3) := by decide +kernel
theorem dX1_inject_31 : decode cX1_inject 31 = .ok (.bipush (-4), 2) := by decide +kernel
theorem dX1_inject_33 : decode cX1_inject 33 = .ok (.ireturn, 1) := by decide +kernel
theorem dX1_inject_34 : decode cX1_inject 34 = .ok (.aload_n 0, 1) := by decide +kernel
theorem dX1_inject_35 : decode cX1_inject 35 = .ok (.getfield 49, 3) := by decide +kernel
theorem dX1_inject_38 : decode cX1_inject 38 = .ok (.bipush 24, 2) := by decide +kernel
theorem dX1_inject_40 : decode cX1_inject 40 = .ok (.if_icmp .ne 6, 3) := by decide +kernel
theorem dX1_inject_43 : decode cX1_inject 43 = .ok (.bipush (-3), 2) := by decide +kernel
theorem dX1_inject_45 : decode cX1_inject 45 = .ok (.ireturn, 1) := by decide +kernel
theorem dX1_inject_46 : decode cX1_inject 46 = .ok (.aload_n 0, 1) := by decide +kernel
theorem dX1_inject_47 : decode cX1_inject 47 = .ok (.aload_n 0, 1) := by decide +kernel
theorem dX1_inject_48 : decode cX1_inject 48 = .ok (.getfield 49, 3) := by decide +kernel
theorem dX1_inject_51 : decode cX1_inject 51 = .ok (.putfield 52, 3) := by decide +kernel
theorem dX1_inject_54 : decode cX1_inject 54 = .ok (.aload_n 0, 1) := by decide +kernel
theorem dX1_inject_55 : decode cX1_inject 55 = .ok (.iload_n 1, 1) := by decide +kernel
theorem dX1_inject_56 : decode cX1_inject 56 = .ok (.iload_n 2, 1) := by decide +kernel
theorem dX1_inject_57 : decode cX1_inject 57 = .ok (.iload_n 3, 1) := by decide +kernel
theorem dX1_inject_58 : decode cX1_inject 58 = .ok (.bipush 15, 2) := by decide +kernel
theorem dX1_inject_60 : decode cX1_inject 60 = .ok (.iand, 1) := by decide +kernel
theorem dX1_inject_61 : decode cX1_inject 61 = .ok (.iload_n 3, 1) := by decide +kernel
theorem dX1_inject_62 : decode cX1_inject 62 = .ok (.iconst 4, 1) := by decide +kernel
theorem dX1_inject_63 : decode cX1_inject 63 = .ok (.ishr, 1) := by decide +kernel
theorem dX1_inject_64 : decode cX1_inject 64 = .ok (.iconst 3, 1) := by decide +kernel
theorem dX1_inject_65 : decode cX1_inject 65 = .ok (.iand, 1) := by decide +kernel
theorem dX1_inject_66 : decode cX1_inject 66 = .ok (.invokevirtual 55, 3) := by decide +kernel
theorem dX1_inject_69 : decode cX1_inject 69 = .ok (.aload_n 0, 1) := by decide +kernel
theorem dX1_inject_70 : decode cX1_inject 70 = .ok (.aload_n 0, 1) := by decide +kernel
theorem dX1_inject_71 : decode cX1_inject 71 = .ok (.getfield 49, 3) := by decide +kernel
theorem dX1_inject_74 : decode cX1_inject 74 = .ok (.iconst 1, 1) := by decide +kernel
theorem dX1_inject_75 : decode cX1_inject 75 = .ok (.iadd, 1) := by decide +kernel
theorem dX1_inject_76 : decode cX1_inject 76 = .ok (.putfield 49, 3) := by decide +kernel
theorem dX1_inject_79 : decode cX1_inject 79 = .ok (.aload_n 0, 1) := by decide +kernel
theorem dX1_inject_80 : decode cX1_inject 80 = .ok (.getfield 49, 3) := by decide +kernel
theorem dX1_inject_83 : decode cX1_inject 83 = .ok (.ireturn, 1) := by decide +kernel
theorem dX1_put_0 : decode cX1_put 0 = .ok (.aload_n 0, 1) := by decide +kernel
theorem dX1_put_1 : decode cX1_put 1 = .ok (.getfield 52, 3) := by decide +kernel
theorem dX1_put_4 : decode cX1_put 4 = .ok (.bipush 96, 2) := by decide +kernel
theorem dX1_put_6 : decode cX1_put 6 = .ok (.if_icmp .ge 64, 3) := by decide +kernel
theorem dX1_put_9 : decode cX1_put 9 = .ok (.aload_n 0, 1) := by decide +kernel
theorem dX1_put_10 : decode cX1_put 10 = .ok (.getfield 22, 3) := by decide +kernel
theorem dX1_put_13 : decode cX1_put 13 = .ok (.aload_n 0, 1) := by decide +kernel
theorem dX1_put_14 : decode cX1_put 14 = .ok (.getfield 52, 3) := by decide +kernel
theorem dX1_put_17 : decode cX1_put 17 = .ok (.iload_n 1, 1) := by decide +kernel
theorem dX1_put_18 : decode cX1_put 18 = .ok (.iastore, 1) := by decide +kernel
theorem dX1_put_19 : decode cX1_put 19 = .ok (.aload_n 0, 1) := by decide +kernel
theorem dX1_put_20 : decode cX1_put 20 = .ok (.getfield 19, 3) := by decide +kernel
theorem dX1_put_23 : decode cX1_put 23 = .ok (.aload_n 0, 1) := by decide +kernel
theorem dX1_put_24 : decode cX1_put 24 = .ok (.getfield 52, 3) := by decide +kernel
theorem dX1_put_27 : decode cX1_put 27 = .ok (.iload_n 2, 1) := by decide +kernel
theorem dX1_put_28 : decode cX1_put 28 = .ok (.iastore, 1) := by decide +kernel
theorem dX1_put_29 : decode cX1_put 29 = .ok (.aload_n 0, 1) := by decide +kernel
theorem dX1_put_30 : decode cX1_put 30 = .ok (.getfield 25, 3) := by decide +kernel
theorem dX1_put_33 : decode cX1_put 33 = .ok (.aload_n 0, 1) := by decide +kernel
theorem dX1_put_34 : decode cX1_put 34 = .ok (.getfield 52, 3) := by decide +kernel
theorem dX1_put_37 : decode cX1_put 37 = .ok (.iload_n 3, 1) := by decide +kernel
theorem dX1_put_38 : decode cX1_put 38 = .ok (.iastore, 1) := by decide +kernel
theorem dX1_put_39 : decode cX1_put 39 = .ok (.aload_n 0, 1) := by decide +kernel
theorem dX1_put_40 : decode cX1_put 40 = .ok (.getfield 28, 3) := by decide +kernel
theorem dX1_put_43 : decode cX1_put 43 = .ok (.aload_n 0, 1) := by decide +kernel
theorem dX1_put_44 : decode cX1_put 44 = .ok (.getfield 52, 3) := by decide +kernel
theorem dX1_put_47 : decode cX1_put 47 = .ok (.iload 4, 2) := by decide +kernel
theorem dX1_put_49 : decode cX1_put 49 = .ok (.iastore, 1) := by decide +kernel
theorem dX1_put_50 : decode cX1_put 50 = .ok (.aload_n 0, 1) := by decide +kernel
theorem dX1_put_51 : decode cX1_put 51 = .ok (.getfield 31, 3) := by decide +kernel
theorem dX1_put_54 : decode cX1_put 54 = .ok (.aload_n 0, 1) := by decide +kernel
theorem dX1_put_55 : decode cX1_put 55 = .ok (.getfield 52, 3) := by decide +kernel
theorem dX1_put_58 : decode cX1_put 58 = .ok (.iconst 0, 1) := by decide +kernel
theorem dX1_put_59 : decode cX1_put 59 = .ok (.bastore, 1) := by decide +kernel
theorem dX1_put_60 : decode cX1_put 60 = .ok (.aload_n 0, 1) := by decide +kernel
theorem dX1_put_61 : decode cX1_put 61 = .ok (.aload_n 0, 1) := by decide +kernel
theorem dX1_put_62 : decode cX1_put 62 = .ok (.getfield 52, 3) := by decide +kernel
theorem dX1_put_65 : decode cX1_put 65 = .ok (.iconst 1, 1) := by decide +kernel
theorem dX1_put_66 : decode cX1_put 66 = .ok (.iadd, 1) := by decide +kernel
theorem dX1_put_67 : decode cX1_put 67 = .ok (.putfield 52, 3) := by decide +kernel
theorem dX1_put_70 : decode cX1_put 70 = .ok (.return_, 1) := by decide +kernel
theorem dX1_work_0 : decode cX1_work 0 = .ok (.aload_n 0, 1) := by decide +kernel
theorem dX1_work_1 : decode cX1_work 1 = .ok (.iload_n 1, 1) := by decide +kernel
theorem dX1_work_2 : decode cX1_work 2 = .ok (.invokevirtual 45, 3) := by decide +kernel
theorem dX1_work_5 : decode cX1_work 5 = .ok (.ifCond .eq 7, 3) := by decide +kernel
theorem dX1_work_8 : decode cX1_work 8 = .ok (.iconst (-1), 1) := by decide +kernel
theorem dX1_work_9 : decode cX1_work 9 = .ok (.goto 4, 3) := by decide +kernel
theorem dX1_work_12 : decode cX1_work 12 = .ok (.iconst 0, 1) := by decide +kernel
theorem dX1_work_13 : decode cX1_work 13 = .ok (.ireturn, 1) := by decide +kernel
theorem dX1_commit_0 : decode cX1_commit 0 = .ok (.iload_n 1, 1) := by decide +kernel
theorem dX1_commit_1 : decode cX1_commit 1 = .ok (.ifCond .lt 10, 3) := by decide +kernel
theorem dX1_commit_4 : decode cX1_commit 4 = .ok (.iload_n 1, 1) := by decide +kernel
theorem dX1_commit_5 : decode cX1_commit 5 = .ok (.sipush 200, 3) := by decide +kernel
theorem dX1_commit_8 : decode cX1_commit 8 = .ok (.if_icmp .le 6, 3) := by decide +kernel
theorem dX1_commit_11 : decode cX1_commit 11 = .ok (.bipush (-2), 2) := by decide +kernel
theorem dX1_commit_13 : decode cX1_commit 13 = .ok (.ireturn, 1) := by decide +kernel
theorem dX1_commit_14 : decode cX1_commit 14 = .ok (.iload_n 1, 1) := by decide +kernel
theorem dX1_commit_15 : decode cX1_commit 15 = .ok (.aload_n 0, 1) := by decide +kernel
theorem dX1_commit_16 : decode cX1_commit 16 = .ok (.getfield 41, 3) := by decide +kernel
theorem dX1_commit_19 : decode cX1_commit 19 = .ok (.if_icmp .ge 6, 3) := by decide +kernel
theorem dX1_commit_22 : decode cX1_commit 22 = .ok (.bipush (-4), 2) := by decide +kernel
theorem dX1_commit_24 : decode cX1_commit 24 = .ok (.ireturn, 1) := by decide +kernel
theorem dX1_commit_25 : decode cX1_commit 25 = .ok (.aload_n 0, 1) := by decide +kernel
theorem dX1_commit_26 : decode cX1_commit 26 = .ok (.iload_n 1, 1) := by decide +kernel
theorem dX1_commit_27 : decode cX1_commit 27 = .ok (.putfield 41, 3) := by decide +kernel
theorem dX1_commit_30 : decode cX1_commit 30 = .ok (.aload_n 0, 1) := by decide +kernel
theorem dX1_commit_31 : decode cX1_commit 31 = .ok (.iload_n 1, 1) := by decide +kernel
theorem dX1_commit_32 : decode cX1_commit 32 = .ok (.invokevirtual 74, 3) := by decide +kernel
theorem dX1_commit_35 : decode cX1_commit 35 = .ok (.aload_n 0, 1) := by decide +kernel
theorem dX1_commit_36 : decode cX1_commit 36 = .ok (.invokevirtual 77, 3) := by decide +kernel
theorem dX1_commit_39 : decode cX1_commit 39 = .ok (.ireturn, 1) := by decide +kernel
theorem dX1_simulate_0 : decode cX1_simulate 0 = .ok (.aload_n 0, 1) := by decide +kernel
theorem dX1_simulate_1 : decode cX1_simulate 1 = .ok (.aload_n 0, 1) := by decide +kernel
theorem dX1_simulate_2 : decode cX1_simulate 2 = .ok (.getfield 49, 3) := by decide +kernel
theorem dX1_simulate_5 : decode cX1_simulate 5 = .ok (.putfield 52, 3) := by decide +kernel
theorem dX1_simulate_8 : decode cX1_simulate 8 = .ok (.aload_n 0, 1) := by decide +kernel
theorem dX1_simulate_9 : decode cX1_simulate 9 = .ok (.iconst (-1), 1) := by decide +kernel
theorem dX1_simulate_10 : decode cX1_simulate 10 = .ok (.putfield 63, 3) := by decide +kernel
theorem dX1_simulate_13 : decode cX1_simulate 13 = .ok (.iconst 0, 1) := by decide +kernel
theorem dX1_simulate_14 : decode cX1_simulate 14 = .ok (.istore_n 2, 1) := by decide +kernel
theorem dX1_simulate_15 : decode cX1_simulate 15 = .ok (.iload_n 2, 1) := by decide +kernel
theorem dX1_simulate_16 : decode cX1_simulate 16 = .ok (.bipush 96, 2) := by decide +kernel
theorem dX1_simulate_18 : decode cX1_simulate 18 = .ok (.if_icmp .ge 16, 3) := by decide +kernel
theorem dX1_simulate_21 : decode cX1_simulate 21 = .ok (.aload_n 0, 1) := by decide +kernel
theorem dX1_simulate_22 : decode cX1_simulate 22 = .ok (.getfield 31, 3) := by decide +kernel
theorem dX1_simulate_25 : decode cX1_simulate 25 = .ok (.iload_n 2, 1) := by decide +kernel
theorem dX1_simulate_26 : decode cX1_simulate 26 = .ok (.iconst 0, 1) := by decide +kernel
theorem dX1_simulate_27 : decode cX1_simulate 27 = .ok (.bastore, 1) := by decide +kernel
theorem dX1_simulate_28 : decode cX1_simulate 28 = .ok (.iinc 2 1, 3) := by decide +kernel
theorem dX1_simulate_31 : decode cX1_simulate 31 = .ok (.goto (-16), 3) := by decide +kernel
theorem dX1_simulate_34 : decode cX1_simulate 34 = .ok (.iconst 0, 1) := by decide +kernel
theorem dX1_simulate_35 : decode cX1_simulate 35 = .ok (.istore_n 2, 1) := by decide +kernel
theorem dX1_simulate_36 : decode cX1_simulate 36 = .ok (.iload_n 2, 1) := by decide +kernel
theorem dX1_simulate_37 : decode cX1_simulate 37 = .ok (.iconst 4, 1) := by decide +kernel
theorem dX1_simulate_38 : decode cX1_simulate 38 = .ok (.if_icmp .ge 23, 3) := by decide +kernel
theorem dX1_simulate_41 : decode cX1_simulate 41 = .ok (.aload_n 0, 1) := by decide +kernel
theorem dX1_simulate_42 : decode cX1_simulate 42 = .ok (.getfield 35, 3) := by decide +kernel
theorem dX1_simulate_45 : decode cX1_simulate 45 = .ok (.iload_n 2, 1) := by decide +kernel
theorem dX1_simulate_46 : decode cX1_simulate 46 = .ok (.iconst 0, 1) := by decide +kernel
theorem dX1_simulate_47 : decode cX1_simulate 47 = .ok (.iastore, 1) := by decide +kernel
theorem dX1_simulate_48 : decode cX1_simulate 48 = .ok (.aload_n 0, 1) := by decide +kernel
theorem dX1_simulate_49 : decode cX1_simulate 49 = .ok (.getfield 38, 3) := by decide +kernel
theorem dX1_simulate_52 : decode cX1_simulate 52 = .ok (.iload_n 2, 1) := by decide +kernel
theorem dX1_simulate_53 : decode cX1_simulate 53 = .ok (.iconst 0, 1) := by decide +kernel
theorem dX1_simulate_54 : decode cX1_simulate 54 = .ok (.iastore, 1) := by decide +kernel
theorem dX1_simulate_55 : decode cX1_simulate 55 = .ok (.iinc 2 1, 3) := by decide +kernel
theorem dX1_simulate_58 : decode cX1_simulate 58 = .ok (.goto (-22), 3) := by decide +kernel
theorem dX1_simulate_61 : decode cX1_simulate 61 = .ok (.iconst 0, 1) := by decide +kernel
theorem dX1_simulate_62 : decode cX1_simulate 62 = .ok (.istore_n 2, 1) := by decide +kernel
theorem dX1_simulate_63 : decode cX1_simulate 63 = .ok (.iload_n 2, 1) := by decide +kernel
theorem dX1_simulate_64 : decode cX1_simulate 64 = .ok (.bipush 96, 2) := by decide +kernel
theorem dX1_simulate_66 : decode cX1_simulate 66 = .ok (.if_icmp .ge 33, 3) := by decide +kernel
theorem dX1_simulate_69 : decode cX1_simulate 69 = .ok (.aload_n 0, 1) := by decide +kernel
theorem dX1_simulate_70 : decode cX1_simulate 70 = .ok (.invokevirtual 66, 3) := by decide +kernel
theorem dX1_simulate_73 : decode cX1_simulate 73 = .ok (.istore_n 3, 1) := by decide +kernel
theorem dX1_simulate_74 : decode cX1_simulate 74 = .ok (.iload_n 3, 1) := by decide +kernel
theorem dX1_simulate_75 : decode cX1_simulate 75 = .ok (.ifCond .lt 18, 3) := by decide +kernel
theorem dX1_simulate_78 : decode cX1_simulate 78 = .ok (.aload_n 0, 1) := by decide +kernel
theorem dX1_simulate_79 : decode cX1_simulate 79 = .ok (.getfield 19, 3) := by decide +kernel
theorem dX1_simulate_82 : decode cX1_simulate 82 = .ok (.iload_n 3, 1) := by decide +kernel
theorem dX1_simulate_83 : decode cX1_simulate 83 = .ok (.iaload, 1) := by decide +kernel
theorem dX1_simulate_84 : decode cX1_simulate 84 = .ok (.iload_n 1, 1) := by decide +kernel
theorem dX1_simulate_85 : decode cX1_simulate 85 = .ok (.if_icmp .gt 8, 3) := by decide +kernel
end
section
set_option maxRecDepth 100000
theorem dX1_simulate_88 : decode cX1_simulate 88 = .ok (.aload_n 0, 1) := by decide +kernel
theorem dX1_simulate_89 : decode cX1_simulate 89 = .ok (.iload_n 3, 1) := by decide +kernel
theorem dX1_simulate_90 : decode cX1_simulate 90 = .ok (.invokevirtual 70, 3) := by decide +kernel
theorem dX1_simulate_93 : decode cX1_simulate 93 = .ok (.iinc 2 1, 3) := by decide +kernel
theorem dX1_simulate_96 : decode cX1_simulate 96 = .ok (.goto (-33), 3) := by decide +kernel
theorem dX1_simulate_99 : decode cX1_simulate 99 = .ok (.return_, 1) := by decide +kernel
theorem dX1_next_0 : decode cX1_next 0 = .ok (.iconst (-1), 1) := by decide +kernel
theorem dX1_next_1 : decode cX1_next 1 = .ok (.istore_n 1, 1) := by decide +kernel
theorem dX1_next_2 : decode cX1_next 2 = .ok (.iconst 0, 1) := by decide +kernel
theorem dX1_next_3 : decode cX1_next 3 = .ok (.istore_n 2, 1) := by decide +kernel
theorem dX1_next_4 : decode cX1_next 4 = .ok (.iload_n 2, 1) := by decide +kernel
theorem dX1_next_5 : decode cX1_next 5 = .ok (.aload_n 0, 1) := by decide +kernel
theorem dX1_next_6 : decode cX1_next 6 = .ok (.getfield 52, 3) := by decide +kernel
theorem dX1_next_9 : decode cX1_next 9 = .ok (.if_icmp .ge 33, 3) := by decide +kernel
theorem dX1_next_12 : decode cX1_next 12 = .ok (.aload_n 0, 1) := by decide +kernel
theorem dX1_next_13 : decode cX1_next 13 = .ok (.getfield 31, 3) := by decide +kernel
theorem dX1_next_16 : decode cX1_next 16 = .ok (.iload_n 2, 1) := by decide +kernel
theorem dX1_next_17 : decode cX1_next 17 = .ok (.baload, 1) := by decide +kernel
theorem dX1_next_18 : decode cX1_next 18 = .ok (.ifCond .ne 18, 3) := by decide +kernel
theorem dX1_next_21 : decode cX1_next 21 = .ok (.iload_n 1, 1) := by decide +kernel
theorem dX1_next_22 : decode cX1_next 22 = .ok (.ifCond .lt 12, 3) := by decide +kernel
theorem dX1_next_25 : decode cX1_next 25 = .ok (.aload_n 0, 1) := by decide +kernel
theorem dX1_next_26 : decode cX1_next 26 = .ok (.iload_n 2, 1) := by decide +kernel
theorem dX1_next_27 : decode cX1_next 27 = .ok (.iload_n 1, 1) := by decide +kernel
theorem dX1_next_28 : decode cX1_next 28 = .ok (.invokevirtual 59, 3) := by decide +kernel
theorem dX1_next_31 : decode cX1_next 31 = .ok (.ifCond .eq 5, 3) := by decide +kernel
theorem dX1_next_34 : decode cX1_next 34 = .ok (.iload_n 2, 1) := by decide +kernel
theorem dX1_next_35 : decode cX1_next 35 = .ok (.istore_n 1, 1) := by decide +kernel
theorem dX1_next_36 : decode cX1_next 36 = .ok (.iinc 2 1, 3) := by decide +kernel
theorem dX1_next_39 : decode cX1_next 39 = .ok (.goto (-35), 3) := by decide +kernel
theorem dX1_next_42 : decode cX1_next 42 = .ok (.iload_n 1, 1) := by decide +kernel
theorem dX1_next_43 : decode cX1_next 43 = .ok (.ireturn, 1) := by decide +kernel
theorem dX1_before_0 : decode cX1_before 0 = .ok (.aload_n 0, 1) := by decide +kernel
theorem dX1_before_1 : decode cX1_before 1 = .ok (.getfield 19, 3) := by decide +kernel
theorem dX1_before_4 : decode cX1_before 4 = .ok (.iload_n 1, 1) := by decide +kernel
theorem dX1_before_5 : decode cX1_before 5 = .ok (.iaload, 1) := by decide +kernel
theorem dX1_before_6 : decode cX1_before 6 = .ok (.aload_n 0, 1) := by decide +kernel
theorem dX1_before_7 : decode cX1_before 7 = .ok (.getfield 19, 3) := by decide +kernel
theorem dX1_before_10 : decode cX1_before 10 = .ok (.iload_n 2, 1) := by decide +kernel
theorem dX1_before_11 : decode cX1_before 11 = .ok (.iaload, 1) := by decide +kernel
theorem dX1_before_12 : decode cX1_before 12 = .ok (.if_icmp .eq 24, 3) := by decide +kernel
theorem dX1_before_15 : decode cX1_before 15 = .ok (.aload_n 0, 1) := by decide +kernel
theorem dX1_before_16 : decode cX1_before 16 = .ok (.getfield 19, 3) := by decide +kernel
theorem dX1_before_19 : decode cX1_before 19 = .ok (.iload_n 1, 1) := by decide +kernel
theorem dX1_before_20 : decode cX1_before 20 = .ok (.iaload, 1) := by decide +kernel
theorem dX1_before_21 : decode cX1_before 21 = .ok (.aload_n 0, 1) := by decide +kernel
theorem dX1_before_22 : decode cX1_before 22 = .ok (.getfield 19, 3) := by decide +kernel
theorem dX1_before_25 : decode cX1_before 25 = .ok (.iload_n 2, 1) := by decide +kernel
theorem dX1_before_26 : decode cX1_before 26 = .ok (.iaload, 1) := by decide +kernel
theorem dX1_before_27 : decode cX1_before 27 = .ok (.if_icmp .ge 7, 3) := by decide +kernel
theorem dX1_before_30 : decode cX1_before 30 = .ok (.iconst 1, 1) := by decide +kernel
theorem dX1_before_31 : decode cX1_before 31 = .ok (.goto 4, 3) := by decide +kernel
theorem dX1_before_34 : decode cX1_before 34 = .ok (.iconst 0, 1) := by decide +kernel
theorem dX1_before_35 : decode cX1_before 35 = .ok (.ireturn, 1) := by decide +kernel
theorem dX1_before_36 : decode cX1_before 36 = .ok (.aload_n 0, 1) := by decide +kernel
theorem dX1_before_37 : decode cX1_before 37 = .ok (.getfield 25, 3) := by decide +kernel
theorem dX1_before_40 : decode cX1_before 40 = .ok (.iload_n 1, 1) := by decide +kernel
theorem dX1_before_41 : decode cX1_before 41 = .ok (.iaload, 1) := by decide +kernel
theorem dX1_before_42 : decode cX1_before 42 = .ok (.aload_n 0, 1) := by decide +kernel
theorem dX1_before_43 : decode cX1_before 43 = .ok (.getfield 25, 3) := by decide +kernel
theorem dX1_before_46 : decode cX1_before 46 = .ok (.iload_n 2, 1) := by decide +kernel
theorem dX1_before_47 : decode cX1_before 47 = .ok (.iaload, 1) := by decide +kernel
theorem dX1_before_48 : decode cX1_before 48 = .ok (.if_icmp .eq 24, 3) := by decide +kernel
theorem dX1_before_51 : decode cX1_before 51 = .ok (.aload_n 0, 1) := by decide +kernel
theorem dX1_before_52 : decode cX1_before 52 = .ok (.getfield 25, 3) := by decide +kernel
theorem dX1_before_55 : decode cX1_before 55 = .ok (.iload_n 1, 1) := by decide +kernel
theorem dX1_before_56 : decode cX1_before 56 = .ok (.iaload, 1) := by decide +kernel
theorem dX1_before_57 : decode cX1_before 57 = .ok (.aload_n 0, 1) := by decide +kernel
theorem dX1_before_58 : decode cX1_before 58 = .ok (.getfield 25, 3) := by decide +kernel
theorem dX1_before_61 : decode cX1_before 61 = .ok (.iload_n 2, 1) := by decide +kernel
theorem dX1_before_62 : decode cX1_before 62 = .ok (.iaload, 1) := by decide +kernel
theorem dX1_before_63 : decode cX1_before 63 = .ok (.if_icmp .ge 7, 3) := by decide +kernel
theorem dX1_before_66 : decode cX1_before 66 = .ok (.iconst 1, 1) := by decide +kernel
theorem dX1_before_67 : decode cX1_before 67 = .ok (.goto 4, 3) := by decide +kernel
theorem dX1_before_70 : decode cX1_before 70 = .ok (.iconst 0, 1) := by decide +kernel
theorem dX1_before_71 : decode cX1_before 71 = .ok (.ireturn, 1) := by decide +kernel
theorem dX1_before_72 : decode cX1_before 72 = .ok (.aload_n 0, 1) := by decide +kernel
theorem dX1_before_73 : decode cX1_before 73 = .ok (.getfield 28, 3) := by decide +kernel
theorem dX1_before_76 : decode cX1_before 76 = .ok (.iload_n 1, 1) := by decide +kernel
theorem dX1_before_77 : decode cX1_before 77 = .ok (.iaload, 1) := by decide +kernel
theorem dX1_before_78 : decode cX1_before 78 = .ok (.aload_n 0, 1) := by decide +kernel
theorem dX1_before_79 : decode cX1_before 79 = .ok (.getfield 28, 3) := by decide +kernel
theorem dX1_before_82 : decode cX1_before 82 = .ok (.iload_n 2, 1) := by decide +kernel
theorem dX1_before_83 : decode cX1_before 83 = .ok (.iaload, 1) := by decide +kernel
theorem dX1_before_84 : decode cX1_before 84 = .ok (.if_icmp .ge 7, 3) := by decide +kernel
theorem dX1_before_87 : decode cX1_before 87 = .ok (.iconst 1, 1) := by decide +kernel
theorem dX1_before_88 : decode cX1_before 88 = .ok (.goto 4, 3) := by decide +kernel
theorem dX1_before_91 : decode cX1_before 91 = .ok (.iconst 0, 1) := by decide +kernel
theorem dX1_before_92 : decode cX1_before 92 = .ok (.ireturn, 1) := by decide +kernel
theorem dX1_handle_0 : decode cX1_handle 0 = .ok (.aload_n 0, 1) := by decide +kernel
theorem dX1_handle_1 : decode cX1_handle 1 = .ok (.getfield 22, 3) := by decide +kernel
theorem dX1_handle_4 : decode cX1_handle 4 = .ok (.iload_n 1, 1) := by decide +kernel
theorem dX1_handle_5 : decode cX1_handle 5 = .ok (.iaload, 1) := by decide +kernel
theorem dX1_handle_6 : decode cX1_handle 6 = .ok (.istore_n 2, 1) := by decide +kernel
theorem dX1_handle_7 : decode cX1_handle 7 = .ok (.aload_n 0, 1) := by decide +kernel
theorem dX1_handle_8 : decode cX1_handle 8 = .ok (.getfield 31, 3) := by decide +kernel
theorem dX1_handle_11 : decode cX1_handle 11 = .ok (.iload_n 1, 1) := by decide +kernel
theorem dX1_handle_12 : decode cX1_handle 12 = .ok (.iconst 1, 1) := by decide +kernel
theorem dX1_handle_13 : decode cX1_handle 13 = .ok (.bastore, 1) := by decide +kernel
theorem dX1_handle_14 : decode cX1_handle 14 = .ok (.aload_n 0, 1) := by decide +kernel
theorem dX1_handle_15 : decode cX1_handle 15 = .ok (.getfield 35, 3) := by decide +kernel
theorem dX1_handle_18 : decode cX1_handle 18 = .ok (.iload_n 2, 1) := by decide +kernel
theorem dX1_handle_19 : decode cX1_handle 19 = .ok (.aload_n 0, 1) := by decide +kernel
theorem dX1_handle_20 : decode cX1_handle 20 = .ok (.getfield 35, 3) := by decide +kernel
theorem dX1_handle_23 : decode cX1_handle 23 = .ok (.iload_n 2, 1) := by decide +kernel
theorem dX1_handle_24 : decode cX1_handle 24 = .ok (.iaload, 1) := by decide +kernel
theorem dX1_handle_25 : decode cX1_handle 25 = .ok (.iconst 5, 1) := by decide +kernel
theorem dX1_handle_26 : decode cX1_handle 26 = .ok (.imul, 1) := by decide +kernel
theorem dX1_handle_27 : decode cX1_handle 27 = .ok (.aload_n 0, 1) := by decide +kernel
theorem dX1_handle_28 : decode cX1_handle 28 = .ok (.getfield 25, 3) := by decide +kernel
theorem dX1_handle_31 : decode cX1_handle 31 = .ok (.iload_n 1, 1) := by decide +kernel
theorem dX1_handle_32 : decode cX1_handle 32 = .ok (.iaload, 1) := by decide +kernel
theorem dX1_handle_33 : decode cX1_handle 33 = .ok (.iadd, 1) := by decide +kernel
theorem dX1_handle_34 : decode cX1_handle 34 = .ok (.iconst 1, 1) := by decide +kernel
theorem dX1_handle_35 : decode cX1_handle 35 = .ok (.iadd, 1) := by decide +kernel
theorem dX1_handle_36 : decode cX1_handle 36 = .ok (.iastore, 1) := by decide +kernel
theorem dX1_handle_37 : decode cX1_handle 37 = .ok (.aload_n 0, 1) := by decide +kernel
theorem dX1_handle_38 : decode cX1_handle 38 = .ok (.getfield 38, 3) := by decide +kernel
theorem dX1_handle_41 : decode cX1_handle 41 = .ok (.iload_n 2, 1) := by decide +kernel
theorem dX1_handle_42 : decode cX1_handle 42 = .ok (.aload_n 0, 1) := by decide +kernel
theorem dX1_handle_43 : decode cX1_handle 43 = .ok (.getfield 38, 3) := by decide +kernel
theorem dX1_handle_46 : decode cX1_handle 46 = .ok (.iload_n 2, 1) := by decide +kernel
theorem dX1_handle_47 : decode cX1_handle 47 = .ok (.iaload, 1) := by decide +kernel
theorem dX1_handle_48 : decode cX1_handle 48 = .ok (.iconst 1, 1) := by decide +kernel
theorem dX1_handle_49 : decode cX1_handle 49 = .ok (.iadd, 1) := by decide +kernel
theorem dX1_handle_50 : decode cX1_handle 50 = .ok (.iastore, 1) := by decide +kernel
theorem dX1_handle_51 : decode cX1_handle 51 = .ok (.aload_n 0, 1) := by decide +kernel
theorem dX1_handle_52 : decode cX1_handle 52 = .ok (.aload_n 0, 1) := by decide +kernel
theorem dX1_handle_53 : decode cX1_handle 53 = .ok (.getfield 19, 3) := by decide +kernel
theorem dX1_handle_56 : decode cX1_handle 56 = .ok (.iload_n 1, 1) := by decide +kernel
theorem dX1_handle_57 : decode cX1_handle 57 = .ok (.iaload, 1) := by decide +kernel
theorem dX1_handle_58 : decode cX1_handle 58 = .ok (.putfield 63, 3) := by decide +kernel
theorem dX1_handle_61 : decode cX1_handle 61 = .ok (.aload_n 0, 1) := by decide +kernel
theorem dX1_handle_62 : decode cX1_handle 62 = .ok (.getfield 28, 3) := by decide +kernel
theorem dX1_handle_65 : decode cX1_handle 65 = .ok (.iload_n 1, 1) := by decide +kernel
theorem dX1_handle_66 : decode cX1_handle 66 = .ok (.iaload, 1) := by decide +kernel
theorem dX1_handle_67 : decode cX1_handle 67 = .ok (.ifCond .le 61, 3) := by decide +kernel
theorem dX1_handle_70 : decode cX1_handle 70 = .ok (.aload_n 0, 1) := by decide +kernel
theorem dX1_handle_71 : decode cX1_handle 71 = .ok (.getfield 35, 3) := by decide +kernel
theorem dX1_handle_74 : decode cX1_handle 74 = .ok (.iload_n 2, 1) := by decide +kernel
theorem dX1_handle_75 : decode cX1_handle 75 = .ok (.iaload, 1) := by decide +kernel
theorem dX1_handle_76 : decode cX1_handle 76 = .ok (.aload_n 0, 1) := by decide +kernel
theorem dX1_handle_77 : decode cX1_handle 77 = .ok (.getfield 16, 3) := by decide +kernel
theorem dX1_handle_80 : decode cX1_handle 80 = .ok (.iload_n 2, 1) := by decide +kernel
theorem dX1_handle_81 : decode cX1_handle 81 = .ok (.iaload, 1) := by decide +kernel
theorem dX1_handle_82 : decode cX1_handle 82 = .ok (.iand, 1) := by decide +kernel
theorem dX1_handle_83 : decode cX1_handle 83 = .ok (.ifCond .ne 45, 3) := by decide +kernel
theorem dX1_handle_86 : decode cX1_handle 86 = .ok (.aload_n 0, 1) := by decide +kernel
theorem dX1_handle_87 : decode cX1_handle 87 = .ok (.aload_n 0, 1) := by decide +kernel
theorem dX1_handle_88 : decode cX1_handle 88 = .ok (.getfield 7, 3) := by decide +kernel
theorem dX1_handle_91 : decode cX1_handle 91 = .ok (.iload_n 2, 1) := by decide +kernel
theorem dX1_handle_92 : decode cX1_handle 92 = .ok (.iaload, 1) := by decide +kernel
theorem dX1_handle_93 : decode cX1_handle 93 = .ok (.aload_n 0, 1) := by decide +kernel
theorem dX1_handle_94 : decode cX1_handle 94 = .ok (.getfield 19, 3) := by decide +kernel
theorem dX1_handle_97 : decode cX1_handle 97 = .ok (.iload_n 1, 1) := by decide +kernel
theorem dX1_handle_98 : decode cX1_handle 98 = .ok (.iaload, 1) := by decide +kernel
theorem dX1_handle_99 : decode cX1_handle 99 = .ok (.aload_n 0, 1) := by decide +kernel
theorem dX1_handle_100 : decode cX1_handle 100 = .ok (.getfield 13, 3) := by decide +kernel
theorem dX1_handle_103 : decode cX1_handle 103 = .ok (.iload_n 2, 1) := by decide +kernel
theorem dX1_handle_104 : decode cX1_handle 104 = .ok (.iaload, 1) := by decide +kernel
theorem dX1_handle_105 : decode cX1_handle 105 = .ok (.iadd, 1) := by decide +kernel
theorem dX1_handle_106 : decode cX1_handle 106 = .ok (.aload_n 0, 1) := by decide +kernel
theorem dX1_handle_107 : decode cX1_handle 107 = .ok (.getfield 35, 3) := by decide +kernel
theorem dX1_handle_110 : decode cX1_handle 110 = .ok (.iload_n 2, 1) := by decide +kernel
theorem dX1_handle_111 : decode cX1_handle 111 = .ok (.iaload, 1) := by decide +kernel
theorem dX1_handle_112 : decode cX1_handle 112 = .ok (.iconst 2, 1) := by decide +kernel
theorem dX1_handle_113 : decode cX1_handle 113 = .ok (.ishr, 1) := by decide +kernel
theorem dX1_handle_114 : decode cX1_handle 114 = .ok (.bipush 15, 2) := by decide +kernel
theorem dX1_handle_116 : decode cX1_handle 116 = .ok (.iand, 1) := by decide +kernel
theorem dX1_handle_117 : decode cX1_handle 117 = .ok (.aload_n 0, 1) := by decide +kernel
theorem dX1_handle_118 : decode cX1_handle 118 = .ok (.getfield 28, 3) := by decide +kernel
theorem dX1_handle_121 : decode cX1_handle 121 = .ok (.iload_n 1, 1) := by decide +kernel
theorem dX1_handle_122 : decode cX1_handle 122 = .ok (.iaload, 1) := by decide +kernel
theorem dX1_handle_123 : decode cX1_handle 123 = .ok (.iconst 1, 1) := by decide +kernel
theorem dX1_handle_124 : decode cX1_handle 124 = .ok (.isub, 1) := by decide +kernel
theorem dX1_handle_125 : decode cX1_handle 125 = .ok (.invokevirtual 55, 3) := by decide +kernel
theorem dX1_handle_128 : decode cX1_handle 128 = .ok (.return_, 1) := by decide +kernel
theorem dX1_all_0 : decode cX1_all 0 = .ok (.aload_n 0, 1) := by decide +kernel
theorem dX1_all_1 : decode cX1_all 1 = .ok (.getfield 38, 3) := by decide +kernel
theorem dX1_all_4 : decode cX1_all 4 = .ok (.iconst 0, 1) := by decide +kernel
theorem dX1_all_5 : decode cX1_all 5 = .ok (.iaload, 1) := by decide +kernel
theorem dX1_all_6 : decode cX1_all 6 = .ok (.aload_n 0, 1) := by decide +kernel
theorem dX1_all_7 : decode cX1_all 7 = .ok (.getfield 38, 3) := by decide +kernel
theorem dX1_all_10 : decode cX1_all 10 = .ok (.iconst 1, 1) := by decide +kernel
theorem dX1_all_11 : decode cX1_all 11 = .ok (.iaload, 1) := by decide +kernel
theorem dX1_all_12 : decode cX1_all 12 = .ok (.iadd, 1) := by decide +kernel
theorem dX1_all_13 : decode cX1_all 13 = .ok (.aload_n 0, 1) := by decide +kernel
theorem dX1_all_14 : decode cX1_all 14 = .ok (.getfield 38, 3) := by decide +kernel
theorem dX1_all_17 : decode cX1_all 17 = .ok (.iconst 2, 1) := by decide +kernel
theorem dX1_all_18 : decode cX1_all 18 = .ok (.iaload, 1) := by decide +kernel
theorem dX1_all_19 : decode cX1_all 19 = .ok (.iadd, 1) := by decide +kernel
theorem dX1_all_20 : decode cX1_all 20 = .ok (.aload_n 0, 1) := by decide +kernel
theorem dX1_all_21 : decode cX1_all 21 = .ok (.getfield 38, 3) := by decide +kernel
theorem dX1_all_24 : decode cX1_all 24 = .ok (.iconst 3, 1) := by decide +kernel
theorem dX1_all_25 : decode cX1_all 25 = .ok (.iaload, 1) := by decide +kernel
theorem dX1_all_26 : decode cX1_all 26 = .ok (.iadd, 1) := by decide +kernel
theorem dX1_all_27 : decode cX1_all 27 = .ok (.ireturn, 1) := by decide +kernel
theorem dX1_clear_0 : decode cX1_clear 0 = .ok (.aload_n 0, 1) := by decide +kernel
theorem dX1_clear_1 : decode cX1_clear 1 = .ok (.iconst 0, 1) := by decide +kernel
theorem dX1_clear_2 : decode cX1_clear 2 = .ok (.putfield 49, 3) := by decide +kernel
theorem dX1_clear_5 : decode cX1_clear 5 = .ok (.aload_n 0, 1) := by decide +kernel
theorem dX1_clear_6 : decode cX1_clear 6 = .ok (.iconst 0, 1) := by decide +kernel
theorem dX1_clear_7 : decode cX1_clear 7 = .ok (.putfield 52, 3) := by decide +kernel
theorem dX1_clear_10 : decode cX1_clear 10 = .ok (.aload_n 0, 1) := by decide +kernel
theorem dX1_clear_11 : decode cX1_clear 11 = .ok (.iconst (-1), 1) := by decide +kernel
theorem dX1_clear_12 : decode cX1_clear 12 = .ok (.putfield 41, 3) := by decide +kernel
theorem dX1_clear_15 : decode cX1_clear 15 = .ok (.return_, 1) := by decide +kernel
theorem dX1_state_0 : decode cX1_state 0 = .ok (.aload_n 0, 1) := by decide +kernel
theorem dX1_state_1 : decode cX1_state 1 = .ok (.iload_n 1, 1) := by decide +kernel
theorem dX1_state_2 : decode cX1_state 2 = .ok (.invokevirtual 45, 3) := by decide +kernel
theorem dX1_state_5 : decode cX1_state 5 = .ok (.ifCond .ne 11, 3) := by decide +kernel
theorem dX1_state_8 : decode cX1_state 8 = .ok (.aload_n 0, 1) := by decide +kernel
theorem dX1_state_9 : decode cX1_state 9 = .ok (.iload_n 2, 1) := by decide +kernel
theorem dX1_state_10 : decode cX1_state 10 = .ok (.invokevirtual 80, 3) := by decide +kernel
theorem dX1_state_13 : decode cX1_state 13 = .ok (.ifCond .ne 5, 3) := by decide +kernel
theorem dX1_state_16 : decode cX1_state 16 = .ok (.iconst 0, 1) := by decide +kernel
theorem dX1_state_17 : decode cX1_state 17 = .ok (.ireturn, 1) := by decide +kernel
theorem dX1_state_18 : decode cX1_state 18 = .ok (.aload_n 0, 1) := by decide +kernel
theorem dX1_state_19 : decode cX1_state 19 = .ok (.iload_n 2, 1) := by decide +kernel
theorem dX1_state_20 : decode cX1_state 20 = .ok (.invokevirtual 74, 3) := by decide +kernel
theorem dX1_state_23 : decode cX1_state 23 = .ok (.aload_n 0, 1) := by decide +kernel
theorem dX1_state_24 : decode cX1_state 24 = .ok (.getfield 35, 3) := by decide +kernel
theorem dX1_state_27 : decode cX1_state 27 = .ok (.iload_n 1, 1) := by decide +kernel
theorem dX1_state_28 : decode cX1_state 28 = .ok (.iaload, 1) := by decide +kernel
theorem dX1_state_29 : decode cX1_state 29 = .ok (.ireturn, 1) := by decide +kernel
theorem dX1_askable_0 : decode cX1_askable 0 = .ok (.iload_n 1, 1) := by decide +kernel
theorem dX1_askable_1 : decode cX1_askable 1 = .ok (.aload_n 0, 1) := by decide +kernel
theorem dX1_askable_2 : decode cX1_askable 2 = .ok (.getfield 41, 3) := by decide +kernel
theorem dX1_askable_5 : decode cX1_askable 5 = .ok (.if_icmp .lt 14, 3) := by decide +kernel
theorem dX1_askable_8 : decode cX1_askable 8 = .ok (.iload_n 1, 1) := by decide +kernel
theorem dX1_askable_9 : decode cX1_askable 9 = .ok (.sipush 200, 3) := by decide +kernel
theorem dX1_askable_12 : decode cX1_askable 12 = .ok (.if_icmp .gt 7, 3) := by decide +kernel
theorem dX1_askable_15 : decode cX1_askable 15 = .ok (.iconst 1, 1) := by decide +kernel
theorem dX1_askable_16 : decode cX1_askable 16 = .ok (.goto 4, 3) := by decide +kernel
theorem dX1_askable_19 : decode cX1_askable 19 = .ok (.iconst 0, 1) := by decide +kernel
theorem dX1_askable_20 : decode cX1_askable 20 = .ok (.ireturn, 1) := by decide +kernel
theorem dX1_handled_0 : decode cX1_handled 0 = .ok (.aload_n 0, 1) := by decide +kernel
theorem dX1_handled_1 : decode cX1_handled 1 = .ok (.iload_n 1, 1) := by decide +kernel
theorem dX1_handled_2 : decode cX1_handled 2 = .ok (.invokevirtual 45, 3) := by decide +kernel
theorem dX1_handled_5 : decode cX1_handled 5 = .ok (.ifCond .eq 5, 3) := by decide +kernel
theorem dX1_handled_8 : decode cX1_handled 8 = .ok (.iconst (-1), 1) := by decide +kernel
theorem dX1_handled_9 : decode cX1_handled 9 = .ok (.ireturn, 1) := by decide +kernel
theorem dX1_handled_10 : decode cX1_handled 10 = .ok (.aload_n 0, 1) := by decide +kernel
theorem dX1_handled_11 : decode cX1_handled 11 = .ok (.iload_n 2, 1) := by decide +kernel
theorem dX1_handled_12 : decode cX1_handled 12 = .ok (.invokevirtual 80, 3) := by decide +kernel
theorem dX1_handled_15 : decode cX1_handled 15 = .ok (.ifCond .ne 6, 3) := by decide +kernel
theorem dX1_handled_18 : decode cX1_handled 18 = .ok (.bipush (-4), 2) := by decide +kernel
theorem dX1_handled_20 : decode cX1_handled 20 = .ok (.ireturn, 1) := by decide +kernel
theorem dX1_handled_21 : decode cX1_handled 21 = .ok (.aload_n 0, 1) := by decide +kernel
theorem dX1_handled_22 : decode cX1_handled 22 = .ok (.iload_n 2, 1) := by decide +kernel
theorem dX1_handled_23 : decode cX1_handled 23 = .ok (.invokevirtual 74, 3) := by decide +kernel
theorem dX1_handled_26 : decode cX1_handled 26 = .ok (.aload_n 0, 1) := by decide +kernel
theorem dX1_handled_27 : decode cX1_handled 27 = .ok (.getfield 38, 3) := by decide +kernel
theorem dX1_handled_30 : decode cX1_handled 30 = .ok (.iload_n 1, 1) := by decide +kernel
theorem dX1_handled_31 : decode cX1_handled 31 = .ok (.iaload, 1) := by decide +kernel
theorem dX1_handled_32 : decode cX1_handled 32 = .ok (.ireturn, 1) := by decide +kernel
theorem dX1_lastTime_0 : decode cX1_lastTime 0 = .ok (.aload_n 0, 1) := by decide +kernel
theorem dX1_lastTime_1 : decode cX1_lastTime 1 = .ok (.sipush 200, 3) := by decide +kernel
theorem dX1_lastTime_4 : decode cX1_lastTime 4 = .ok (.invokevirtual 74, 3) := by decide +kernel
theorem dX1_lastTime_7 : decode cX1_lastTime 7 = .ok (.aload_n 0, 1) := by decide +kernel
theorem dX1_lastTime_8 : decode cX1_lastTime 8 = .ok (.getfield 63, 3) := by decide +kernel
theorem dX1_lastTime_11 : decode cX1_lastTime 11 = .ok (.ireturn, 1) := by decide +kernel
theorem dX1_events_0 : decode cX1_events 0 = .ok (.aload_n 0, 1) := by decide +kernel
theorem dX1_events_1 : decode cX1_events 1 = .ok (.sipush 200, 3) := by decide +kernel
theorem dX1_events_4 : decode cX1_events 4 = .ok (.invokevirtual 74, 3) := by decide +kernel
theorem dX1_events_7 : decode cX1_events 7 = .ok (.aload_n 0, 1) := by decide +kernel
theorem dX1_events_8 : decode cX1_events 8 = .ok (.invokevirtual 77, 3) := by decide +kernel
theorem dX1_events_11 : decode cX1_events 11 = .ok (.ireturn, 1) := by decide +kernel
theorem dX1_horizon_0 : decode cX1_horizon 0 = .ok (.aload_n 0, 1) := by decide +kernel
theorem dX1_horizon_1 : decode cX1_horizon 1 = .ok (.getfield 41, 3) := by decide +kernel
theorem dX1_horizon_4 : decode cX1_horizon 4 = .ok (.ireturn, 1) := by decide +kernel
end
section
set_option maxRecDepth 100000
theorem dL_law_0 : decode cL_law 0 = .ok (.new 7, 3) := by decide +kernel
theorem dL_law_3 : decode cL_law 3 = .ok (.dup, 1) := by decide +kernel
theorem dL_law_4 : decode cL_law 4 = .ok (.invokespecial 9, 3) := by decide +kernel
theorem dL_law_7 : decode cL_law 7 = .ok (.astore_n 1, 1) := by decide +kernel
theorem dL_law_8 : decode cL_law 8 = .ok (.new 10, 3) := by decide +kernel
theorem dL_law_11 : decode cL_law 11 = .ok (.dup, 1) := by decide +kernel
theorem dL_law_12 : decode cL_law 12 = .ok (.invokespecial 12, 3) := by decide +kernel
theorem dL_law_15 : decode cL_law 15 = .ok (.astore_n 2, 1) := by decide +kernel
theorem dL_law_16 : decode cL_law 16 = .ok (.iconst 0, 1) := by decide +kernel
theorem dL_law_17 : decode cL_law 17 = .ok (.istore_n 3, 1) := by decide +kernel
theorem dL_law_18 : decode cL_law 18 = .ok (.iload_n 3, 1) := by decide +kernel
theorem dL_law_19 : decode cL_law 19 = .ok (.aload_n 0, 1) := by decide +kernel
theorem dL_law_20 : decode cL_law 20 = .ok (.arraylength, 1) := by decide +kernel
theorem dL_law_21 : decode cL_law 21 = .ok (.iconst 5, 1) := by decide +kernel
theorem dL_law_22 : decode cL_law 22 = .ok (.isub, 1) := by decide +kernel
theorem dL_law_23 : decode cL_law 23 = .ok (.if_icmp .gt 339, 3) := by decide +kernel
theorem dL_law_26 : decode cL_law 26 = .ok (.aload_n 0, 1) := by decide +kernel
theorem dL_law_27 : decode cL_law 27 = .ok (.iload_n 3, 1) := by decide +kernel
theorem dL_law_28 : decode cL_law 28 = .ok (.iaload, 1) := by decide +kernel
theorem dL_law_29 : decode cL_law 29 = .ok (.bipush 15, 2) := by decide +kernel
theorem dL_law_31 : decode cL_law 31 = .ok (.iand, 1) := by decide +kernel
theorem dL_law_32 : decode cL_law 32 = .ok (.tableswitch 324 0 9 #[56, 109, 152, 185, 208, 219, 252, 285, 298, 311], 56) := by decide +kernel
theorem dL_law_88 : decode cL_law 88 = .ok (.aload_n 1, 1) := by decide +kernel
theorem dL_law_89 : decode cL_law 89 = .ok (.aload_n 0, 1) := by decide +kernel
theorem dL_law_90 : decode cL_law 90 = .ok (.iload_n 3, 1) := by decide +kernel
theorem dL_law_91 : decode cL_law 91 = .ok (.iconst 1, 1) := by decide +kernel
theorem dL_law_92 : decode cL_law 92 = .ok (.iadd, 1) := by decide +kernel
theorem dL_law_93 : decode cL_law 93 = .ok (.iaload, 1) := by decide +kernel
theorem dL_law_94 : decode cL_law 94 = .ok (.aload_n 0, 1) := by decide +kernel
theorem dL_law_95 : decode cL_law 95 = .ok (.iload_n 3, 1) := by decide +kernel
theorem dL_law_96 : decode cL_law 96 = .ok (.iconst 2, 1) := by decide +kernel
theorem dL_law_97 : decode cL_law 97 = .ok (.iadd, 1) := by decide +kernel
theorem dL_law_98 : decode cL_law 98 = .ok (.iaload, 1) := by decide +kernel
theorem dL_law_99 : decode cL_law 99 = .ok (.aload_n 0, 1) := by decide +kernel
theorem dL_law_100 : decode cL_law 100 = .ok (.iload_n 3, 1) := by decide +kernel
theorem dL_law_101 : decode cL_law 101 = .ok (.iconst 3, 1) := by decide +kernel
theorem dL_law_102 : decode cL_law 102 = .ok (.iadd, 1) := by decide +kernel
theorem dL_law_103 : decode cL_law 103 = .ok (.iaload, 1) := by decide +kernel
theorem dL_law_104 : decode cL_law 104 = .ok (.aload_n 0, 1) := by decide +kernel
theorem dL_law_105 : decode cL_law 105 = .ok (.iload_n 3, 1) := by decide +kernel
theorem dL_law_106 : decode cL_law 106 = .ok (.iconst 4, 1) := by decide +kernel
theorem dL_law_107 : decode cL_law 107 = .ok (.iadd, 1) := by decide +kernel
theorem dL_law_108 : decode cL_law 108 = .ok (.iaload, 1) := by decide +kernel
theorem dL_law_109 : decode cL_law 109 = .ok (.invokevirtual 13, 3) := by decide +kernel
theorem dL_law_112 : decode cL_law 112 = .ok (.aload_n 2, 1) := by decide +kernel
theorem dL_law_113 : decode cL_law 113 = .ok (.aload_n 0, 1) := by decide +kernel
theorem dL_law_114 : decode cL_law 114 = .ok (.iload_n 3, 1) := by decide +kernel
theorem dL_law_115 : decode cL_law 115 = .ok (.iconst 1, 1) := by decide +kernel
theorem dL_law_116 : decode cL_law 116 = .ok (.iadd, 1) := by decide +kernel
theorem dL_law_117 : decode cL_law 117 = .ok (.iaload, 1) := by decide +kernel
theorem dL_law_118 : decode cL_law 118 = .ok (.aload_n 0, 1) := by decide +kernel
theorem dL_law_119 : decode cL_law 119 = .ok (.iload_n 3, 1) := by decide +kernel
theorem dL_law_120 : decode cL_law 120 = .ok (.iconst 2, 1) := by decide +kernel
theorem dL_law_121 : decode cL_law 121 = .ok (.iadd, 1) := by decide +kernel
theorem dL_law_122 : decode cL_law 122 = .ok (.iaload, 1) := by decide +kernel
theorem dL_law_123 : decode cL_law 123 = .ok (.aload_n 0, 1) := by decide +kernel
theorem dL_law_124 : decode cL_law 124 = .ok (.iload_n 3, 1) := by decide +kernel
theorem dL_law_125 : decode cL_law 125 = .ok (.iconst 3, 1) := by decide +kernel
theorem dL_law_126 : decode cL_law 126 = .ok (.iadd, 1) := by decide +kernel
theorem dL_law_127 : decode cL_law 127 = .ok (.iaload, 1) := by decide +kernel
theorem dL_law_128 : decode cL_law 128 = .ok (.aload_n 0, 1) := by decide +kernel
theorem dL_law_129 : decode cL_law 129 = .ok (.iload_n 3, 1) := by decide +kernel
theorem dL_law_130 : decode cL_law 130 = .ok (.iconst 4, 1) := by decide +kernel
theorem dL_law_131 : decode cL_law 131 = .ok (.iadd, 1) := by decide +kernel
theorem dL_law_132 : decode cL_law 132 = .ok (.iaload, 1) := by decide +kernel
theorem dL_law_133 : decode cL_law 133 = .ok (.invokevirtual 17, 3) := by decide +kernel
theorem dL_law_136 : decode cL_law 136 = .ok (.if_icmp .eq 220, 3) := by decide +kernel
theorem dL_law_139 : decode cL_law 139 = .ok (.iconst 0, 1) := by decide +kernel
theorem dL_law_140 : decode cL_law 140 = .ok (.ireturn, 1) := by decide +kernel
theorem dL_law_141 : decode cL_law 141 = .ok (.aload_n 1, 1) := by decide +kernel
theorem dL_law_142 : decode cL_law 142 = .ok (.aload_n 0, 1) := by decide +kernel
theorem dL_law_143 : decode cL_law 143 = .ok (.iload_n 3, 1) := by decide +kernel
theorem dL_law_144 : decode cL_law 144 = .ok (.iconst 1, 1) := by decide +kernel
theorem dL_law_145 : decode cL_law 145 = .ok (.iadd, 1) := by decide +kernel
theorem dL_law_146 : decode cL_law 146 = .ok (.iaload, 1) := by decide +kernel
theorem dL_law_147 : decode cL_law 147 = .ok (.aload_n 0, 1) := by decide +kernel
theorem dL_law_148 : decode cL_law 148 = .ok (.iload_n 3, 1) := by decide +kernel
theorem dL_law_149 : decode cL_law 149 = .ok (.iconst 2, 1) := by decide +kernel
theorem dL_law_150 : decode cL_law 150 = .ok (.iadd, 1) := by decide +kernel
theorem dL_law_151 : decode cL_law 151 = .ok (.iaload, 1) := by decide +kernel
theorem dL_law_152 : decode cL_law 152 = .ok (.aload_n 0, 1) := by decide +kernel
theorem dL_law_153 : decode cL_law 153 = .ok (.iload_n 3, 1) := by decide +kernel
theorem dL_law_154 : decode cL_law 154 = .ok (.iconst 3, 1) := by decide +kernel
theorem dL_law_155 : decode cL_law 155 = .ok (.iadd, 1) := by decide +kernel
theorem dL_law_156 : decode cL_law 156 = .ok (.iaload, 1) := by decide +kernel
theorem dL_law_157 : decode cL_law 157 = .ok (.invokevirtual 18, 3) := by decide +kernel
theorem dL_law_160 : decode cL_law 160 = .ok (.aload_n 2, 1) := by decide +kernel
theorem dL_law_161 : decode cL_law 161 = .ok (.aload_n 0, 1) := by decide +kernel
theorem dL_law_162 : decode cL_law 162 = .ok (.iload_n 3, 1) := by decide +kernel
theorem dL_law_163 : decode cL_law 163 = .ok (.iconst 1, 1) := by decide +kernel
theorem dL_law_164 : decode cL_law 164 = .ok (.iadd, 1) := by decide +kernel
theorem dL_law_165 : decode cL_law 165 = .ok (.iaload, 1) := by decide +kernel
theorem dL_law_166 : decode cL_law 166 = .ok (.aload_n 0, 1) := by decide +kernel
theorem dL_law_167 : decode cL_law 167 = .ok (.iload_n 3, 1) := by decide +kernel
theorem dL_law_168 : decode cL_law 168 = .ok (.iconst 2, 1) := by decide +kernel
theorem dL_law_169 : decode cL_law 169 = .ok (.iadd, 1) := by decide +kernel
theorem dL_law_170 : decode cL_law 170 = .ok (.iaload, 1) := by decide +kernel
theorem dL_law_171 : decode cL_law 171 = .ok (.aload_n 0, 1) := by decide +kernel
theorem dL_law_172 : decode cL_law 172 = .ok (.iload_n 3, 1) := by decide +kernel
theorem dL_law_173 : decode cL_law 173 = .ok (.iconst 3, 1) := by decide +kernel
theorem dL_law_174 : decode cL_law 174 = .ok (.iadd, 1) := by decide +kernel
theorem dL_law_175 : decode cL_law 175 = .ok (.iaload, 1) := by decide +kernel
theorem dL_law_176 : decode cL_law 176 = .ok (.invokevirtual 22, 3) := by decide +kernel
theorem dL_law_179 : decode cL_law 179 = .ok (.if_icmp .eq 177, 3) := by decide +kernel
theorem dL_law_182 : decode cL_law 182 = .ok (.iconst 0, 1) := by decide +kernel
theorem dL_law_183 : decode cL_law 183 = .ok (.ireturn, 1) := by decide +kernel
theorem dL_law_184 : decode cL_law 184 = .ok (.aload_n 1, 1) := by decide +kernel
theorem dL_law_185 : decode cL_law 185 = .ok (.aload_n 0, 1) := by decide +kernel
theorem dL_law_186 : decode cL_law 186 = .ok (.iload_n 3, 1) := by decide +kernel
theorem dL_law_187 : decode cL_law 187 = .ok (.iconst 1, 1) := by decide +kernel
theorem dL_law_188 : decode cL_law 188 = .ok (.iadd, 1) := by decide +kernel
theorem dL_law_189 : decode cL_law 189 = .ok (.iaload, 1) := by decide +kernel
theorem dL_law_190 : decode cL_law 190 = .ok (.aload_n 0, 1) := by decide +kernel
theorem dL_law_191 : decode cL_law 191 = .ok (.iload_n 3, 1) := by decide +kernel
theorem dL_law_192 : decode cL_law 192 = .ok (.iconst 2, 1) := by decide +kernel
theorem dL_law_193 : decode cL_law 193 = .ok (.iadd, 1) := by decide +kernel
theorem dL_law_194 : decode cL_law 194 = .ok (.iaload, 1) := by decide +kernel
theorem dL_law_195 : decode cL_law 195 = .ok (.invokevirtual 23, 3) := by decide +kernel
theorem dL_law_198 : decode cL_law 198 = .ok (.aload_n 2, 1) := by decide +kernel
theorem dL_law_199 : decode cL_law 199 = .ok (.aload_n 0, 1) := by decide +kernel
theorem dL_law_200 : decode cL_law 200 = .ok (.iload_n 3, 1) := by decide +kernel
theorem dL_law_201 : decode cL_law 201 = .ok (.iconst 1, 1) := by decide +kernel
theorem dL_law_202 : decode cL_law 202 = .ok (.iadd, 1) := by decide +kernel
theorem dL_law_203 : decode cL_law 203 = .ok (.iaload, 1) := by decide +kernel
theorem dL_law_204 : decode cL_law 204 = .ok (.aload_n 0, 1) := by decide +kernel
theorem dL_law_205 : decode cL_law 205 = .ok (.iload_n 3, 1) := by decide +kernel
theorem dL_law_206 : decode cL_law 206 = .ok (.iconst 2, 1) := by decide +kernel
theorem dL_law_207 : decode cL_law 207 = .ok (.iadd, 1) := by decide +kernel
theorem dL_law_208 : decode cL_law 208 = .ok (.iaload, 1) := by decide +kernel
theorem dL_law_209 : decode cL_law 209 = .ok (.invokevirtual 27, 3) := by decide +kernel
theorem dL_law_212 : decode cL_law 212 = .ok (.if_icmp .eq 144, 3) := by decide +kernel
theorem dL_law_215 : decode cL_law 215 = .ok (.iconst 0, 1) := by decide +kernel
theorem dL_law_216 : decode cL_law 216 = .ok (.ireturn, 1) := by decide +kernel
theorem dL_law_217 : decode cL_law 217 = .ok (.aload_n 1, 1) := by decide +kernel
theorem dL_law_218 : decode cL_law 218 = .ok (.aload_n 0, 1) := by decide +kernel
theorem dL_law_219 : decode cL_law 219 = .ok (.iload_n 3, 1) := by decide +kernel
theorem dL_law_220 : decode cL_law 220 = .ok (.iconst 1, 1) := by decide +kernel
theorem dL_law_221 : decode cL_law 221 = .ok (.iadd, 1) := by decide +kernel
theorem dL_law_222 : decode cL_law 222 = .ok (.iaload, 1) := by decide +kernel
theorem dL_law_223 : decode cL_law 223 = .ok (.invokevirtual 28, 3) := by decide +kernel
theorem dL_law_226 : decode cL_law 226 = .ok (.aload_n 2, 1) := by decide +kernel
theorem dL_law_227 : decode cL_law 227 = .ok (.aload_n 0, 1) := by decide +kernel
theorem dL_law_228 : decode cL_law 228 = .ok (.iload_n 3, 1) := by decide +kernel
theorem dL_law_229 : decode cL_law 229 = .ok (.iconst 1, 1) := by decide +kernel
theorem dL_law_230 : decode cL_law 230 = .ok (.iadd, 1) := by decide +kernel
theorem dL_law_231 : decode cL_law 231 = .ok (.iaload, 1) := by decide +kernel
theorem dL_law_232 : decode cL_law 232 = .ok (.invokevirtual 32, 3) := by decide +kernel
theorem dL_law_235 : decode cL_law 235 = .ok (.if_icmp .eq 121, 3) := by decide +kernel
theorem dL_law_238 : decode cL_law 238 = .ok (.iconst 0, 1) := by decide +kernel
theorem dL_law_239 : decode cL_law 239 = .ok (.ireturn, 1) := by decide +kernel
theorem dL_law_240 : decode cL_law 240 = .ok (.aload_n 1, 1) := by decide +kernel
theorem dL_law_241 : decode cL_law 241 = .ok (.invokevirtual 33, 3) := by decide +kernel
theorem dL_law_244 : decode cL_law 244 = .ok (.aload_n 2, 1) := by decide +kernel
theorem dL_law_245 : decode cL_law 245 = .ok (.invokevirtual 36, 3) := by decide +kernel
theorem dL_law_248 : decode cL_law 248 = .ok (.goto 108, 3) := by decide +kernel
theorem dL_law_251 : decode cL_law 251 = .ok (.aload_n 1, 1) := by decide +kernel
theorem dL_law_252 : decode cL_law 252 = .ok (.aload_n 0, 1) := by decide +kernel
theorem dL_law_253 : decode cL_law 253 = .ok (.iload_n 3, 1) := by decide +kernel
theorem dL_law_254 : decode cL_law 254 = .ok (.iconst 1, 1) := by decide +kernel
theorem dL_law_255 : decode cL_law 255 = .ok (.iadd, 1) := by decide +kernel
theorem dL_law_256 : decode cL_law 256 = .ok (.iaload, 1) := by decide +kernel
theorem dL_law_257 : decode cL_law 257 = .ok (.aload_n 0, 1) := by decide +kernel
theorem dL_law_258 : decode cL_law 258 = .ok (.iload_n 3, 1) := by decide +kernel
theorem dL_law_259 : decode cL_law 259 = .ok (.iconst 2, 1) := by decide +kernel
theorem dL_law_260 : decode cL_law 260 = .ok (.iadd, 1) := by decide +kernel
theorem dL_law_261 : decode cL_law 261 = .ok (.iaload, 1) := by decide +kernel
theorem dL_law_262 : decode cL_law 262 = .ok (.invokevirtual 37, 3) := by decide +kernel
theorem dL_law_265 : decode cL_law 265 = .ok (.aload_n 2, 1) := by decide +kernel
theorem dL_law_266 : decode cL_law 266 = .ok (.aload_n 0, 1) := by decide +kernel
theorem dL_law_267 : decode cL_law 267 = .ok (.iload_n 3, 1) := by decide +kernel
theorem dL_law_268 : decode cL_law 268 = .ok (.iconst 1, 1) := by decide +kernel
theorem dL_law_269 : decode cL_law 269 = .ok (.iadd, 1) := by decide +kernel
theorem dL_law_270 : decode cL_law 270 = .ok (.iaload, 1) := by decide +kernel
theorem dL_law_271 : decode cL_law 271 = .ok (.aload_n 0, 1) := by decide +kernel
theorem dL_law_272 : decode cL_law 272 = .ok (.iload_n 3, 1) := by decide +kernel
theorem dL_law_273 : decode cL_law 273 = .ok (.iconst 2, 1) := by decide +kernel
theorem dL_law_274 : decode cL_law 274 = .ok (.iadd, 1) := by decide +kernel
theorem dL_law_275 : decode cL_law 275 = .ok (.iaload, 1) := by decide +kernel
theorem dL_law_276 : decode cL_law 276 = .ok (.invokevirtual 40, 3) := by decide +kernel
theorem dL_law_279 : decode cL_law 279 = .ok (.if_icmp .eq 77, 3) := by decide +kernel
theorem dL_law_282 : decode cL_law 282 = .ok (.iconst 0, 1) := by decide +kernel
theorem dL_law_283 : decode cL_law 283 = .ok (.ireturn, 1) := by decide +kernel
theorem dL_law_284 : decode cL_law 284 = .ok (.aload_n 1, 1) := by decide +kernel
theorem dL_law_285 : decode cL_law 285 = .ok (.aload_n 0, 1) := by decide +kernel
theorem dL_law_286 : decode cL_law 286 = .ok (.iload_n 3, 1) := by decide +kernel
theorem dL_law_287 : decode cL_law 287 = .ok (.iconst 1, 1) := by decide +kernel
theorem dL_law_288 : decode cL_law 288 = .ok (.iadd, 1) := by decide +kernel
theorem dL_law_289 : decode cL_law 289 = .ok (.iaload, 1) := by decide +kernel
theorem dL_law_290 : decode cL_law 290 = .ok (.aload_n 0, 1) := by decide +kernel
theorem dL_law_291 : decode cL_law 291 = .ok (.iload_n 3, 1) := by decide +kernel
theorem dL_law_292 : decode cL_law 292 = .ok (.iconst 2, 1) := by decide +kernel
theorem dL_law_293 : decode cL_law 293 = .ok (.iadd, 1) := by decide +kernel
theorem dL_law_294 : decode cL_law 294 = .ok (.iaload, 1) := by decide +kernel
theorem dL_law_295 : decode cL_law 295 = .ok (.invokevirtual 41, 3) := by decide +kernel
theorem dL_law_298 : decode cL_law 298 = .ok (.aload_n 2, 1) := by decide +kernel
theorem dL_law_299 : decode cL_law 299 = .ok (.aload_n 0, 1) := by decide +kernel
theorem dL_law_300 : decode cL_law 300 = .ok (.iload_n 3, 1) := by decide +kernel
theorem dL_law_301 : decode cL_law 301 = .ok (.iconst 1, 1) := by decide +kernel
theorem dL_law_302 : decode cL_law 302 = .ok (.iadd, 1) := by decide +kernel
theorem dL_law_303 : decode cL_law 303 = .ok (.iaload, 1) := by decide +kernel
theorem dL_law_304 : decode cL_law 304 = .ok (.aload_n 0, 1) := by decide +kernel
theorem dL_law_305 : decode cL_law 305 = .ok (.iload_n 3, 1) := by decide +kernel
theorem dL_law_306 : decode cL_law 306 = .ok (.iconst 2, 1) := by decide +kernel
theorem dL_law_307 : decode cL_law 307 = .ok (.iadd, 1) := by decide +kernel
theorem dL_law_308 : decode cL_law 308 = .ok (.iaload, 1) := by decide +kernel
theorem dL_law_309 : decode cL_law 309 = .ok (.invokevirtual 44, 3) := by decide +kernel
theorem dL_law_312 : decode cL_law 312 = .ok (.if_icmp .eq 44, 3) := by decide +kernel
theorem dL_law_315 : decode cL_law 315 = .ok (.iconst 0, 1) := by decide +kernel
theorem dL_law_316 : decode cL_law 316 = .ok (.ireturn, 1) := by decide +kernel
theorem dL_law_317 : decode cL_law 317 = .ok (.aload_n 1, 1) := by decide +kernel
theorem dL_law_318 : decode cL_law 318 = .ok (.invokevirtual 45, 3) := by decide +kernel
theorem dL_law_321 : decode cL_law 321 = .ok (.aload_n 2, 1) := by decide +kernel
theorem dL_law_322 : decode cL_law 322 = .ok (.invokevirtual 49, 3) := by decide +kernel
theorem dL_law_325 : decode cL_law 325 = .ok (.if_icmp .eq 31, 3) := by decide +kernel
theorem dL_law_328 : decode cL_law 328 = .ok (.iconst 0, 1) := by decide +kernel
theorem dL_law_329 : decode cL_law 329 = .ok (.ireturn, 1) := by decide +kernel
theorem dL_law_330 : decode cL_law 330 = .ok (.aload_n 1, 1) := by decide +kernel
theorem dL_law_331 : decode cL_law 331 = .ok (.invokevirtual 50, 3) := by decide +kernel
theorem dL_law_334 : decode cL_law 334 = .ok (.aload_n 2, 1) := by decide +kernel
theorem dL_law_335 : decode cL_law 335 = .ok (.invokevirtual 53, 3) := by decide +kernel
theorem dL_law_338 : decode cL_law 338 = .ok (.if_icmp .eq 18, 3) := by decide +kernel
theorem dL_law_341 : decode cL_law 341 = .ok (.iconst 0, 1) := by decide +kernel
theorem dL_law_342 : decode cL_law 342 = .ok (.ireturn, 1) := by decide +kernel
theorem dL_law_343 : decode cL_law 343 = .ok (.aload_n 1, 1) := by decide +kernel
theorem dL_law_344 : decode cL_law 344 = .ok (.invokevirtual 54, 3) := by decide +kernel
theorem dL_law_347 : decode cL_law 347 = .ok (.aload_n 2, 1) := by decide +kernel
theorem dL_law_348 : decode cL_law 348 = .ok (.invokevirtual 57, 3) := by decide +kernel
theorem dL_law_351 : decode cL_law 351 = .ok (.if_icmp .eq 5, 3) := by decide +kernel
theorem dL_law_354 : decode cL_law 354 = .ok (.iconst 0, 1) := by decide +kernel
theorem dL_law_355 : decode cL_law 355 = .ok (.ireturn, 1) := by decide +kernel
theorem dL_law_356 : decode cL_law 356 = .ok (.iinc 3 5, 3) := by decide +kernel
theorem dL_law_359 : decode cL_law 359 = .ok (.goto (-341), 3) := by decide +kernel
theorem dL_law_362 : decode cL_law 362 = .ok (.iconst 1, 1) := by decide +kernel
theorem dL_law_363 : decode cL_law 363 = .ok (.ireturn, 1) := by decide +kernel
end
section
/-! THE PURE MIRRORS: every Java method as a function on the abstract state (field number, index, value) -/
abbrev os_St : Type := Nat → Nat → Int32
def os_set (σ : os_St) (k i : Nat) (v : Int32) : os_St := fun k' => if k' = k then upd (σ k) i v else σ k'
abbrev os_ix (i : Int32) : Nat := i.toNatClampNeg
def os_enc : Option Nat → Int32
  | none => -1
  | some n => nI n
def os_bit (b : Bool) : Int32 := if b then 1 else 0
/-- the best of the places below n that are ok, by lt -/
def os_pick1 (ok : Nat → Bool) (lt : Nat → Nat → Bool) (n : Nat) (o : Option Nat) : Option Nat := match o with
  | none => if ok n then some n else none
  | some b => if ok n && lt n b then some n else some b
def os_best (ok : Nat → Bool) (lt : Nat → Nat → Bool) (n : Nat) : Option Nat := match n with
  | 0 => none
  | n + 1 => os_pick1 ok lt n (os_best ok lt n)
  termination_by n
-- ===== OptimisticSim: 0 target, 1 delay, 2 mask, 3 injected, 4 line, 5 used, 6 timeOf, 7 processOf, 8 valueOf, 9 lifeOf, 10 done, 11 before, 12 sent, 13 now, 14 foldedState, 15 foldedCount, 16 foldedLast, 17 recalled, 18 recalls =====
def os_soon (σ : os_St) (a b : Nat) : Bool :=
  if σ 6 a = σ 6 b then (if σ 8 a = σ 8 b then (if σ 9 a = σ 9 b then decide (a < b) else decide (σ 9 a < σ 9 b)) else decide (σ 8 a < σ 8 b)) else decide (σ 6 a < σ 6 b)
def os_okN (σ : os_St) (p : Int32) (e : Nat) : Bool := decide (σ 5 e ≠ 0) && (decide (σ 10 e = 0) && decide (σ 7 e = p))
def os_okL (σ : os_St) (p : Int32) (e : Nat) : Bool := decide (σ 5 e ≠ 0) && (decide (σ 10 e ≠ 0) && decide (σ 7 e = p))
def os_okT (σ : os_St) (p t : Int32) (e : Nat) : Bool := decide (σ 5 e ≠ 0) && (decide (σ 10 e ≠ 0) && (decide (σ 7 e = p) && decide (t < σ 6 e)))
def os_next (σ : os_St) (p : Int32) : Nat → Option Nat := os_best (os_okN σ p) (fun e b => os_soon σ e b)
def os_last (σ : os_St) (p : Int32) : Nat → Option Nat := os_best (os_okL σ p) (fun e b => os_soon σ b e)
def os_firstT (σ : os_St) (p t : Int32) : Nat → Option Nat := os_best (os_okT σ p t) (fun e b => os_soon σ e b)
def os_freeF (σ : os_St) : Nat → Nat → Nat
  | 0, e => e
  | n + 1, e => if σ 5 e = 0 then e else os_freeF σ n (e + 1)
def os_free (σ : os_St) : Nat := os_freeF σ 95 0
def os_newAt (σ : os_St) (e : Nat) (p t v l : Int32) : os_St :=
  os_set (os_set (os_set (os_set (os_set (os_set (os_set σ 5 e 1) 6 e t) 7 e p) 8 e v) 9 e l) 10 e 0) 12 e (-1)
def os_undo1 (σ : os_St) (e : Nat) : os_St := os_set (os_set σ 13 (os_ix (σ 7 e)) (σ 11 e)) 10 e 0
def os_push (σ : os_St) (e : Nat) : os_St := os_set (os_set (os_set σ 17 (os_ix (σ 18 0)) (σ 12 e)) 18 0 (σ 18 0 + 1)) 12 e (-1)
def os_undo (σ : os_St) (e : Nat) : os_St := if (os_undo1 σ e) 12 e < 0 then os_undo1 σ e else os_push (os_undo1 σ e) e
def os_goF (p : Int32) (e : Nat) : Nat → os_St → Option Nat → os_St
  | 0, σ, _ => σ
  | _ + 1, σ, none => σ
  | n + 1, σ, some b => if b = e ∨ os_soon σ e b = true then os_goF p e n (os_undo σ b) (os_last (os_undo σ b) p 96) else σ
def os_goBack (σ : os_St) (e : Nat) : os_St := os_goF (σ 7 e) e 96 σ (os_last σ (σ 7 e) 96)
def os_pop (σ : os_St) : os_St := os_set σ 18 0 (σ 18 0 - 1)
def os_top (σ : os_St) : Nat := os_ix ((os_pop σ) 17 (os_ix ((os_pop σ) 18 0)))
def os_cb1 (σ : os_St) : os_St := if (os_pop σ) 10 (os_top σ) = 0 then os_pop σ else os_goBack (os_pop σ) (os_top σ)
def os_cbF : Nat → os_St → os_St
  | 0, σ => σ
  | n + 1, σ => if 0 < σ 18 0 then os_cbF n (os_set (os_cb1 σ) 5 (os_top σ) 0) else σ
def os_callBack (σ : os_St) : os_St := os_cbF 97 σ
def os_arrive (σ : os_St) (e : Nat) : os_St := os_callBack (os_goBack σ e)
def os_hd1 (σ : os_St) (e p : Nat) : os_St := os_set σ 11 e (σ 13 p)
def os_hd2 (σ : os_St) (e p : Nat) : os_St := os_set (os_hd1 σ e p) 13 p ((os_hd1 σ e p) 13 p * 5 + (os_hd1 σ e p) 8 e + 1)
def os_hd3 (σ : os_St) (e p : Nat) : os_St := os_set (os_hd2 σ e p) 10 e 1
def os_child (σ : os_St) (e p : Nat) : os_St := os_newAt σ (os_free σ) (σ 0 p) (σ 6 e + σ 1 p) ((σ 13 p >>> ((2 : Int32) &&& 31)) &&& 15) (σ 9 e - 1)
def os_send (σ : os_St) (e p : Nat) : os_St := os_arrive (os_set (os_child σ e p) 12 e (nI (os_free σ))) (os_free σ)
def os_handle (σ : os_St) (e : Nat) : os_St :=
  if 0 < (os_hd3 σ e (os_ix (σ 7 e))) 9 e ∧ ((os_hd3 σ e (os_ix (σ 7 e))) 13 (os_ix (σ 7 e)) &&& (os_hd3 σ e (os_ix (σ 7 e))) 2 (os_ix (σ 7 e))) = 0 then os_send (os_hd3 σ e (os_ix (σ 7 e))) e (os_ix (σ 7 e)) else os_hd3 σ e (os_ix (σ 7 e))
def os_badP (p : Int32) : Bool := decide (p < 0) || decide (4 ≤ p)
def os_badT (σ : os_St) (t : Int32) : Bool := decide (t < σ 4 0) || decide (200 < t)
-- ---- the public methods: answer, new state ----
def os_rule (σ : os_St) (p t d m : Int32) : Int32 × os_St :=
  if os_badP p = true ∨ os_badP t = true then (-1, σ) else if d < 1 ∨ 9 < d ∨ m < 0 ∨ 15 < m then (-2, σ) else if 0 < σ 3 0 then (-5, σ) else (0, os_set (os_set (os_set σ 0 (os_ix p) t) 1 (os_ix p) d) 2 (os_ix p) m)
def os_inj1 (σ : os_St) : os_St := os_set σ 3 0 (σ 3 0 + 1)
def os_inj2 (σ : os_St) (p t w : Int32) : os_St := os_newAt (os_inj1 σ) (os_free (os_inj1 σ)) p t (w &&& 15) ((w >>> ((4 : Int32) &&& 31)) &&& 3)
def os_inj3 (σ : os_St) (p t w : Int32) : os_St := os_arrive (os_inj2 σ p t w) (os_free (os_inj1 σ))
def os_inject (σ : os_St) (p t w : Int32) : Int32 × os_St :=
  if os_badP p = true then (-1, σ) else if t < 0 ∨ 99 < t then (-2, σ) else if t ≤ σ 4 0 then (-4, σ) else if 24 ≤ σ 3 0 then (-3, σ) else ((os_inj3 σ p t w) 3 0, os_inj3 σ p t w)
def os_hopt (σ : os_St) (o : Option Nat) : os_St := match o with
  | none => σ
  | some e => os_handle σ e
def os_step1 (σ : os_St) (p : Int32) : os_St := os_hopt σ (os_next σ p 96)
def os_workF (p : Int32) : Nat → os_St → os_St
  | 0, σ => σ
  | n + 1, σ => os_workF p n (os_step1 σ p)
/-- how many rounds work(p, n) makes -/
def os_rounds (n : Int32) : Nat := min (os_ix n) 96
def os_work (σ : os_St) (p n : Int32) : Int32 × os_St := if os_badP p = true then (-1, σ) else (0, os_workF p (os_rounds n) σ)
def os_pick2 (σ : os_St) (t : Int32) (o ob : Option Nat) : Option Nat := match o with
  | none => ob
  | some e => if t < σ 6 e then ob else match ob with
    | none => some e
    | some b => if σ 6 e < σ 6 b then some e else some b
def os_earlF (σ : os_St) (t : Int32) : Nat → Option Nat
  | 0 => none
  | p + 1 => os_pick2 σ t (os_next σ (nI p) 96) (os_earlF σ t p)
def os_earl (σ : os_St) (t : Int32) : Option Nat := os_earlF σ t 4
def os_reachF (t : Int32) : Nat → os_St → os_St
  | 0, σ => σ
  | n + 1, σ => os_reachF t n (os_hopt σ (os_earl σ t))
def os_reach (σ : os_St) (t : Int32) : os_St := os_reachF t 200 σ
def os_cntF (σ : os_St) (p t : Int32) : Nat → Nat
  | 0 => 0
  | n + 1 => if σ 5 n ≠ 0 ∧ σ 7 n = p ∧ σ 6 n ≤ t then os_cntF σ p t n + 1 else os_cntF σ p t n
def os_count (σ : os_St) (p t : Int32) : Int32 := nI (os_cntF σ p t 96)
def os_at (σ : os_St) (p : Int32) (o : Option Nat) : Int32 := match o with
  | none => σ 13 (os_ix p)
  | some f => σ 11 f
def os_stateAt (σ : os_St) (p t : Int32) : Int32 := os_at σ p (os_firstT σ p t 96)
def os_fold1 (t : Int32) (σ : os_St) (p : Nat) : os_St := os_set (os_set σ 14 p (os_stateAt σ (nI p) t)) 15 p ((os_set σ 14 p (os_stateAt σ (nI p) t)) 15 p + os_count (os_set σ 14 p (os_stateAt σ (nI p) t)) (nI p) t)
def os_foldF (t : Int32) (σ : os_St) : Nat → os_St × Int32
  | 0 => (σ, 0)
  | p + 1 => (os_fold1 t (os_foldF t σ p).1 p, (os_foldF t σ p).2 + (os_fold1 t (os_foldF t σ p).1 p) 15 p)
def os_drop1 (t : Int32) (σ : os_St) (e : Nat) : os_St :=
  if σ 5 e ≠ 0 ∧ σ 6 e ≤ t then (if σ 16 0 < σ 6 e then os_set (os_set σ 16 0 (σ 6 e)) 5 e 0 else os_set σ 5 e 0) else σ
def os_dropF (t : Int32) (σ : os_St) : Nat → os_St
  | 0 => σ
  | e + 1 => os_drop1 t (os_dropF t σ e) e
def os_commit (σ : os_St) (t : Int32) : Int32 × os_St :=
  if t < 0 ∨ 200 < t then (-2, σ) else if t < σ 4 0 then (-4, σ) else ((os_foldF t (os_reach σ t) 4).2, os_set (os_dropF t (os_foldF t (os_reach σ t) 4).1 96) 4 0 t)
def os_clr1 (σ : os_St) : os_St := os_set (os_set (os_set (os_set σ 3 0 0) 4 0 (-1)) 16 0 (-1)) 18 0 0
def os_clr2 (σ : os_St) : Nat → os_St
  | 0 => σ
  | n + 1 => os_set (os_clr2 σ n) 5 n 0
def os_clr3 (σ : os_St) : Nat → os_St
  | 0 => σ
  | n + 1 => os_set (os_set (os_set (os_clr3 σ n) 13 n 0) 14 n 0) 15 n 0
def os_clear (σ : os_St) : os_St := os_clr3 (os_clr2 (os_clr1 σ) 96) 4
def os_state (σ : os_St) (p t : Int32) : Int32 × os_St :=
  if os_badP p = true ∨ os_badT σ t = true then (0, σ) else if t = σ 4 0 then (σ 14 (os_ix p), σ) else (os_stateAt (os_reach σ t) p t, os_reach σ t)
def os_handled (σ : os_St) (p t : Int32) : Int32 × os_St :=
  if os_badP p = true then (-1, σ) else if os_badT σ t = true then (-4, σ) else ((os_reach σ t) 15 (os_ix p) + os_count (os_reach σ t) p t, os_reach σ t)
def os_mostF (σ : os_St) : Nat → Int32
  | 0 => σ 16 0
  | n + 1 => if σ 5 n ≠ 0 ∧ os_mostF σ n < σ 6 n then σ 6 n else os_mostF σ n
def os_lastTime (σ : os_St) : Int32 × os_St := (os_mostF (os_reach σ 200) 96, os_reach σ 200)
def os_sumF (σ : os_St) : Nat → Int32
  | 0 => 0
  | p + 1 => os_sumF σ p + (σ 15 p + os_count σ (nI p) 200)
def os_events (σ : os_St) : Int32 × os_St := (os_sumF (os_reach σ 200) 4, os_reach σ 200)
def os_ini (σ : os_St) : Nat → os_St
  | 0 => σ
  | n + 1 => os_set (os_set (os_ini σ n) 1 n 1) 2 n 15
def os_zero : os_St := fun _ _ => 0
def os_start : os_St := os_clear (os_ini os_zero 4)
-- ===== OptimisticSimModel: 0 targets, 1 delays, 2 masks, 3 injected, 4 horizon, 5 count, 6 times, 7 processes, 8 values, 9 lives, 10 done, 11 states, 12 handledBy, 13 last =====
def om_put (μ : os_St) (p t v l : Int32) : os_St :=
  if μ 5 0 < 96 then os_set (os_set (os_set (os_set (os_set (os_set μ 7 (os_ix (μ 5 0)) p) 6 (os_ix (μ 5 0)) t) 8 (os_ix (μ 5 0)) v) 9 (os_ix (μ 5 0)) l) 10 (os_ix (μ 5 0)) 0) 5 0 (μ 5 0 + 1) else μ
def om_before (μ : os_St) (i j : Nat) : Bool :=
  if μ 6 i = μ 6 j then (if μ 8 i = μ 8 j then decide (μ 9 i < μ 9 j) else decide (μ 8 i < μ 8 j)) else decide (μ 6 i < μ 6 j)
def om_next (μ : os_St) : Nat → Option Nat := os_best (fun i => decide (μ 10 i = 0)) (fun e b => om_before μ e b)
def om_hd (μ : os_St) (e p : Nat) : os_St :=
  os_set (os_set (os_set (os_set μ 10 e 1) 11 p (μ 11 p * 5 + μ 8 e + 1)) 12 p (μ 12 p + 1)) 13 0 (μ 6 e)
def om_handle (μ : os_St) (e : Nat) : os_St :=
  if 0 < (om_hd μ e (os_ix (μ 7 e))) 9 e ∧ ((om_hd μ e (os_ix (μ 7 e))) 11 (os_ix (μ 7 e)) &&& (om_hd μ e (os_ix (μ 7 e))) 2 (os_ix (μ 7 e))) = 0 then
    om_put (om_hd μ e (os_ix (μ 7 e))) ((om_hd μ e (os_ix (μ 7 e))) 0 (os_ix (μ 7 e))) ((om_hd μ e (os_ix (μ 7 e))) 6 e + (om_hd μ e (os_ix (μ 7 e))) 1 (os_ix (μ 7 e))) (((om_hd μ e (os_ix (μ 7 e))) 11 (os_ix (μ 7 e)) >>> ((2 : Int32) &&& 31)) &&& 15) ((om_hd μ e (os_ix (μ 7 e))) 9 e - 1)
  else om_hd μ e (os_ix (μ 7 e))
def om_sim1 (μ : os_St) : os_St := os_set (os_set μ 5 0 (μ 3 0)) 13 0 (-1)
def om_sim2 (μ : os_St) : Nat → os_St
  | 0 => μ
  | n + 1 => os_set (om_sim2 μ n) 10 n 0
def om_sim3 (μ : os_St) : Nat → os_St
  | 0 => μ
  | n + 1 => os_set (os_set (om_sim3 μ n) 11 n 0) 12 n 0
def om_hopt (μ : os_St) (t : Int32) (o : Option Nat) : os_St := match o with
  | none => μ
  | some e => if t < μ 6 e then μ else om_handle μ e
def om_step (μ : os_St) (t : Int32) : os_St := om_hopt μ t (om_next μ (os_ix (μ 5 0)))
def om_simF (t : Int32) (μ : os_St) : Nat → os_St
  | 0 => μ
  | n + 1 => om_step (om_simF t μ n) t
def om_sim0 (μ : os_St) : os_St := om_sim3 (om_sim2 (om_sim1 μ) 96) 4
def om_sim (μ : os_St) (t : Int32) : os_St := om_simF t (om_sim0 μ) 96
def om_all (μ : os_St) : Int32 := μ 12 0 + μ 12 1 + μ 12 2 + μ 12 3
def om_bad (p : Int32) : Bool := decide (p < 0) || decide (3 < p)
def om_askable (μ : os_St) (t : Int32) : Bool := decide (μ 4 0 ≤ t) && decide (t ≤ 200)
def om_rule (μ : os_St) (p t d m : Int32) : Int32 × os_St :=
  if om_bad p = true ∨ om_bad t = true then (-1, μ) else if d < 1 ∨ 9 < d ∨ m < 0 ∨ 15 < m then (-2, μ) else if 0 < μ 3 0 then (-5, μ) else (0, os_set (os_set (os_set μ 0 (os_ix p) t) 1 (os_ix p) d) 2 (os_ix p) m)
def om_inj1 (μ : os_St) (p t w : Int32) : os_St := om_put (os_set μ 5 0 (μ 3 0)) p t (w &&& 15) ((w >>> ((4 : Int32) &&& 31)) &&& 3)
def om_inj2 (μ : os_St) (p t w : Int32) : os_St := os_set (om_inj1 μ p t w) 3 0 ((om_inj1 μ p t w) 3 0 + 1)
def om_inject (μ : os_St) (p t w : Int32) : Int32 × os_St :=
  if om_bad p = true then (-1, μ) else if t < 0 ∨ 99 < t then (-2, μ) else if t ≤ μ 4 0 then (-4, μ) else if μ 3 0 = 24 then (-3, μ) else ((om_inj2 μ p t w) 3 0, om_inj2 μ p t w)
def om_work (μ : os_St) (p : Int32) : Int32 := if om_bad p = true then -1 else 0
def om_commit (μ : os_St) (t : Int32) : Int32 × os_St :=
  if t < 0 ∨ 200 < t then (-2, μ) else if t < μ 4 0 then (-4, μ) else (om_all (om_sim (os_set μ 4 0 t) t), om_sim (os_set μ 4 0 t) t)
def om_clear (μ : os_St) : os_St := os_set (os_set (os_set μ 3 0 0) 5 0 0) 4 0 (-1)
def om_state (μ : os_St) (p t : Int32) : Int32 × os_St :=
  if om_bad p = true ∨ om_askable μ t = false then (0, μ) else ((om_sim μ t) 11 (os_ix p), om_sim μ t)
def om_handled (μ : os_St) (p t : Int32) : Int32 × os_St :=
  if om_bad p = true then (-1, μ) else if om_askable μ t = false then (-4, μ) else ((om_sim μ t) 12 (os_ix p), om_sim μ t)
def om_lastTime (μ : os_St) : Int32 × os_St := ((om_sim μ 200) 13 0, om_sim μ 200)
def om_events (μ : os_St) : Int32 × os_St := (om_all (om_sim μ 200), om_sim μ 200)
def om_start : os_St := os_set (os_ini os_zero 4) 4 0 (-1)
end
section
/-! THE TWO OBJECTS' WORLDS and rows over them (printed by gen/rows.py) -/
abbrev os_cls : List vw_C := [(RX0, TX0, 19), (RX1, TX1, 14)]
abbrev os_tys (cI cZ : ClassId) : List (ClassId × FieldType) := [(cI, .int), (cZ, .boolean)]
def os_cx (own : String) (p : Program) (s : State) (m : MethodId) (args : Array Value) (c : Code) (cc : ByteArray) (nL : Nat) (D : va_G) (cI cZ : ClassId) : Prop :=
  p.tables.exec = Jvm.exec ∧ c.code = cc ∧ c.maxLocals = nL ∧ s.vm.findClass own = some m.cls ∧ (∀ w ∈ lw_all, w.before args s = true) ∧ va_K D os_cls (os_tys cI cZ) s
theorem os_nz0 : vp_nar .boolean 0 = 0 := by decide
theorem os_nz1 : vp_nar .boolean 1 = 1 := by decide
/-- an int contract, a void contract, over any world P before and P' behind -/
def os_MI (l : Launch) (y : MethodName) (cc : ByteArray) (L : Nat) (rt : FieldType) (rm : Room) (A : Nat → Prop) (av : List Value) (P P' : State → Prop) (r : Int32) : Prop :=
  Met l y (ws_ y cc L (some rt)) rm (va_Pc av P) (va_Qi (fun r' (_ : Unit) => r' = r) (fun _ => P') A) 0 0 A
def os_MV (l : Launch) (y : MethodName) (cc : ByteArray) (L : Nat) (rm : Room) (A : Nat → Prop) (av : List Value) (P P' : State → Prop) : Prop :=
  Met l y (ws_ y cc L none) rm (va_Pc av P) (va_Qv (fun (_ : Unit) => True) (fun _ => P') A) 0 0 A
def os_rm (f lo : Nat) : Room := { frames := f, cells := 0, slots := 0, locals := lo }

def ox_w (cI cZ : ClassId) (h : Nat) (ad : Nat → Nat) (σ : os_St) : va_W := [(h, .inr (0, [.ref (ad 0), .ref (ad 1), .ref (ad 2), .int (σ 3 0), .int (σ 4 0), .ref (ad 5), .ref (ad 6), .ref (ad 7), .ref (ad 8), .ref (ad 9), .ref (ad 10), .ref (ad 11), .ref (ad 12), .ref (ad 13), .ref (ad 14), .ref (ad 15), .int (σ 16 0), .ref (ad 17), .int (σ 18 0)])), (ad 0, .inl (cI, 4, .inl (σ 0))), (ad 1, .inl (cI, 4, .inl (σ 1))), (ad 2, .inl (cI, 4, .inl (σ 2))), (ad 5, .inl (cZ, 96, .inl (σ 5))), (ad 6, .inl (cI, 96, .inl (σ 6))), (ad 7, .inl (cI, 96, .inl (σ 7))), (ad 8, .inl (cI, 96, .inl (σ 8))), (ad 9, .inl (cI, 96, .inl (σ 9))), (ad 10, .inl (cZ, 96, .inl (σ 10))), (ad 11, .inl (cI, 96, .inl (σ 11))), (ad 12, .inl (cI, 96, .inl (σ 12))), (ad 13, .inl (cI, 4, .inl (σ 13))), (ad 14, .inl (cI, 4, .inl (σ 14))), (ad 15, .inl (cI, 4, .inl (σ 15))), (ad 17, .inl (cI, 96, .inl (σ 17)))]
def ox_L (h : Nat) (ad : Nat → Nat) : List Nat := [h, ad 0, ad 1, ad 2, ad 5, ad 6, ad 7, ad 8, ad 9, ad 10, ad 11, ad 12, ad 13, ad 14, ad 15, ad 17]
def ox_A (h : Nat) (ad : Nat → Nat) : Nat → Prop := fun q => q ∈ ox_L h ad
def ox_P (D : va_G) (cI cZ : ClassId) (h : Nat) (ad : Nat → Nat) (σ : os_St) (H : Heap) : Prop := va_P D os_cls (ox_w cI cZ h ad σ) H ∧ va_D (ox_A h ad) (ox_w cI cZ h ad σ)
def ox_W (D : va_G) (cI cZ : ClassId) (h : Nat) (ad : Nat → Nat) (σ : os_St) (U : State) : Prop := ox_P D cI cZ h ad σ U.heap ∧ va_K D os_cls (os_tys cI cZ) U
abbrev ox_QI (below : List Frame) (D : va_G) (cI cZ : ClassId) (h : Nat) (ad : Nat → Nat) (σ' : os_St) (r : Int32) (args : Array Value) (s : State) : State → Prop := MQ below (va_Qi (fun r' (_ : Unit) => r' = r) (fun _ => ox_W D cI cZ h ad σ') (ox_A h ad)) args s 0 0 (ox_A h ad)
abbrev ox_QV (below : List Frame) (D : va_G) (cI cZ : ClassId) (h : Nat) (ad : Nat → Nat) (σ' : os_St) (args : Array Value) (s : State) : State → Prop := MQ below (va_Qv (fun (_ : Unit) => True) (fun _ => ox_W D cI cZ h ad σ') (ox_A h ad)) args s 0 0 (ox_A h ad)
theorem ox_blind {D : va_G} {cI cZ : ClassId} {h : Nat} {ad : Nat → Nat} {σ : os_St} {av : List Value} : FrameBlind (va_Pc av (ox_W D cI cZ h ad σ)) := by
  intro a U g mk q
  obtain ⟨q0, qP, qK⟩ := q
  exact ⟨q0, qP, va_K.moved (u := U) (U := U.calling g mk a) (Vm.Alike.refl U.vm) qK⟩
section OX
variable {p : Program} {l : Launch} {e : Env} {R : Room} {s : State} {m : MethodId} {args : Array Value} {below : List Frame} {meth : Method} {c : Code} {H : Heap} {locs : List Loc} {cells slots : Nat} {Q : State → Prop} {cc : ByteArray} {pc : Nat} {ls : Array Slot} {rest : List Value} {D : va_G} {cI cZ : ClassId} {h nL : Nat} {ad : Nat → Nat} {σ : os_St} {H0 : Heap}
theorem ox_f0 (C : os_cx RX0 p s m args c cc nL D cI cZ) (hO : ox_P D cI cZ h ad σ H) (d : decode cc pc = .ok (.getfield 7, 3)) (kk : W p l e R s m args below meth c H locs cells slots Q (F0 m (pc + 3) ls (.ref (ad 0) :: rest))) : W p l e R s m args below meth c H locs cells slots Q (F0 m pc ls (.ref h :: rest)) :=
  va_get (D := D) (ci := 0) (v := .ref (ad 0)) (C := RX0) (T := TX0) (N := 19) C.1 C.2.1 C.2.2.2.2.1 in_X0 C.2.2.2.1 C.2.2.2.2.2 hO.1 0 rfl rfl 0 (by decide) (C.2.2.2.2.1 _ q37) (fun _ h9 => h9) rfl d kk
theorem ox_g0 (C : os_cx RX0 p s m args c cc nL D cI cZ) (hO : ox_P D cI cZ h ad σ H) (hl : ls[0]? = some (.val (.ref h))) (d0 : decode cc pc = .ok (.aload_n 0, 1)) (d : decode cc (pc + 1) = .ok (.getfield 7, 3)) (kk : W p l e R s m args below meth c H locs cells slots Q (F0 m (pc + 4) ls (.ref (ad 0) :: rest))) : W p l e R s m args below meth c H locs cells slots Q (F0 m pc ls rest) :=
  lv_aload_n C.1 C.2.1 d0 rfl hl (ox_f0 C hO d kk)
theorem ox_l0 (C : os_cx RX0 p s m args c cc nL D cI cZ) (hO : ox_P D cI cZ h ad σ H) {i : Int32} {j : Nat} (hj : i.toNatClampNeg = j) (hi : vp_in i 4) (d : decode cc pc = .ok (.iaload, 1)) (kk : W p l e R s m args below meth c H locs cells slots Q (F0 m (pc + 1) ls (.int (σ 0 j) :: rest))) : W p l e R s m args below meth c H locs cells slots Q (F0 m pc ls (.int i :: .ref (ad 0) :: rest)) := by
  subst hj
  exact va_iald C.1 C.2.1 C.2.2.2.2.2 hO.1 1 0 rfl rfl hi d kk
theorem ox_s0 (C : os_cx RX0 p s m args c cc nL D cI cZ) (hO : ox_P D cI cZ h ad σ H) (hS : va_S (ox_A h ad) H0 H locs) {i x : Int32} {j : Nat} (hj : i.toNatClampNeg = j) (hi : vp_in i 4) (d : decode cc pc = .ok (.iastore, 1)) (kk : ∀ (H1 : Heap) (locs1 : List Loc), ox_P D cI cZ h ad (os_set σ 0 j x) H1 → va_S (ox_A h ad) H0 H1 locs1 → W p l e R s m args below meth c H1 locs1 cells slots Q (F0 m (pc + 1) ls rest)) : W p l e R s m args below meth c H locs cells slots Q (F0 m pc ls (.int x :: .int i :: .ref (ad 0) :: rest)) := by
  subst hj
  exact va_iast C.1 C.2.1 C.2.2.2.2.2 hO.1 hO.2 hS 1 0 rfl rfl hi d (fun H1 locs1 h1 h2 h3 => kk H1 locs1 ⟨h1, h2⟩ h3)
theorem ox_f1 (C : os_cx RX0 p s m args c cc nL D cI cZ) (hO : ox_P D cI cZ h ad σ H) (d : decode cc pc = .ok (.getfield 13, 3)) (kk : W p l e R s m args below meth c H locs cells slots Q (F0 m (pc + 3) ls (.ref (ad 1) :: rest))) : W p l e R s m args below meth c H locs cells slots Q (F0 m pc ls (.ref h :: rest)) :=
  va_get (D := D) (ci := 0) (v := .ref (ad 1)) (C := RX0) (T := TX0) (N := 19) C.1 C.2.1 C.2.2.2.2.1 in_X0 C.2.2.2.1 C.2.2.2.2.2 hO.1 0 rfl rfl 1 (by decide) (C.2.2.2.2.1 _ q38) (fun _ h9 => h9) rfl d kk
theorem ox_g1 (C : os_cx RX0 p s m args c cc nL D cI cZ) (hO : ox_P D cI cZ h ad σ H) (hl : ls[0]? = some (.val (.ref h))) (d0 : decode cc pc = .ok (.aload_n 0, 1)) (d : decode cc (pc + 1) = .ok (.getfield 13, 3)) (kk : W p l e R s m args below meth c H locs cells slots Q (F0 m (pc + 4) ls (.ref (ad 1) :: rest))) : W p l e R s m args below meth c H locs cells slots Q (F0 m pc ls rest) :=
  lv_aload_n C.1 C.2.1 d0 rfl hl (ox_f1 C hO d kk)
theorem ox_l1 (C : os_cx RX0 p s m args c cc nL D cI cZ) (hO : ox_P D cI cZ h ad σ H) {i : Int32} {j : Nat} (hj : i.toNatClampNeg = j) (hi : vp_in i 4) (d : decode cc pc = .ok (.iaload, 1)) (kk : W p l e R s m args below meth c H locs cells slots Q (F0 m (pc + 1) ls (.int (σ 1 j) :: rest))) : W p l e R s m args below meth c H locs cells slots Q (F0 m pc ls (.int i :: .ref (ad 1) :: rest)) := by
  subst hj
  exact va_iald C.1 C.2.1 C.2.2.2.2.2 hO.1 2 0 rfl rfl hi d kk
theorem ox_s1 (C : os_cx RX0 p s m args c cc nL D cI cZ) (hO : ox_P D cI cZ h ad σ H) (hS : va_S (ox_A h ad) H0 H locs) {i x : Int32} {j : Nat} (hj : i.toNatClampNeg = j) (hi : vp_in i 4) (d : decode cc pc = .ok (.iastore, 1)) (kk : ∀ (H1 : Heap) (locs1 : List Loc), ox_P D cI cZ h ad (os_set σ 1 j x) H1 → va_S (ox_A h ad) H0 H1 locs1 → W p l e R s m args below meth c H1 locs1 cells slots Q (F0 m (pc + 1) ls rest)) : W p l e R s m args below meth c H locs cells slots Q (F0 m pc ls (.int x :: .int i :: .ref (ad 1) :: rest)) := by
  subst hj
  exact va_iast C.1 C.2.1 C.2.2.2.2.2 hO.1 hO.2 hS 2 0 rfl rfl hi d (fun H1 locs1 h1 h2 h3 => kk H1 locs1 ⟨h1, h2⟩ h3)
theorem ox_f2 (C : os_cx RX0 p s m args c cc nL D cI cZ) (hO : ox_P D cI cZ h ad σ H) (d : decode cc pc = .ok (.getfield 16, 3)) (kk : W p l e R s m args below meth c H locs cells slots Q (F0 m (pc + 3) ls (.ref (ad 2) :: rest))) : W p l e R s m args below meth c H locs cells slots Q (F0 m pc ls (.ref h :: rest)) :=
  va_get (D := D) (ci := 0) (v := .ref (ad 2)) (C := RX0) (T := TX0) (N := 19) C.1 C.2.1 C.2.2.2.2.1 in_X0 C.2.2.2.1 C.2.2.2.2.2 hO.1 0 rfl rfl 2 (by decide) (C.2.2.2.2.1 _ q39) (fun _ h9 => h9) rfl d kk
theorem ox_g2 (C : os_cx RX0 p s m args c cc nL D cI cZ) (hO : ox_P D cI cZ h ad σ H) (hl : ls[0]? = some (.val (.ref h))) (d0 : decode cc pc = .ok (.aload_n 0, 1)) (d : decode cc (pc + 1) = .ok (.getfield 16, 3)) (kk : W p l e R s m args below meth c H locs cells slots Q (F0 m (pc + 4) ls (.ref (ad 2) :: rest))) : W p l e R s m args below meth c H locs cells slots Q (F0 m pc ls rest) :=
  lv_aload_n C.1 C.2.1 d0 rfl hl (ox_f2 C hO d kk)
theorem ox_l2 (C : os_cx RX0 p s m args c cc nL D cI cZ) (hO : ox_P D cI cZ h ad σ H) {i : Int32} {j : Nat} (hj : i.toNatClampNeg = j) (hi : vp_in i 4) (d : decode cc pc = .ok (.iaload, 1)) (kk : W p l e R s m args below meth c H locs cells slots Q (F0 m (pc + 1) ls (.int (σ 2 j) :: rest))) : W p l e R s m args below meth c H locs cells slots Q (F0 m pc ls (.int i :: .ref (ad 2) :: rest)) := by
  subst hj
  exact va_iald C.1 C.2.1 C.2.2.2.2.2 hO.1 3 0 rfl rfl hi d kk
theorem ox_s2 (C : os_cx RX0 p s m args c cc nL D cI cZ) (hO : ox_P D cI cZ h ad σ H) (hS : va_S (ox_A h ad) H0 H locs) {i x : Int32} {j : Nat} (hj : i.toNatClampNeg = j) (hi : vp_in i 4) (d : decode cc pc = .ok (.iastore, 1)) (kk : ∀ (H1 : Heap) (locs1 : List Loc), ox_P D cI cZ h ad (os_set σ 2 j x) H1 → va_S (ox_A h ad) H0 H1 locs1 → W p l e R s m args below meth c H1 locs1 cells slots Q (F0 m (pc + 1) ls rest)) : W p l e R s m args below meth c H locs cells slots Q (F0 m pc ls (.int x :: .int i :: .ref (ad 2) :: rest)) := by
  subst hj
  exact va_iast C.1 C.2.1 C.2.2.2.2.2 hO.1 hO.2 hS 3 0 rfl rfl hi d (fun H1 locs1 h1 h2 h3 => kk H1 locs1 ⟨h1, h2⟩ h3)
theorem ox_f3 (C : os_cx RX0 p s m args c cc nL D cI cZ) (hO : ox_P D cI cZ h ad σ H) (d : decode cc pc = .ok (.getfield 63, 3)) (kk : W p l e R s m args below meth c H locs cells slots Q (F0 m (pc + 3) ls (.int (σ 3 0) :: rest))) : W p l e R s m args below meth c H locs cells slots Q (F0 m pc ls (.ref h :: rest)) :=
  va_get (D := D) (ci := 0) (v := .int (σ 3 0)) (C := RX0) (T := TX0) (N := 19) C.1 C.2.1 C.2.2.2.2.1 in_X0 C.2.2.2.1 C.2.2.2.2.2 hO.1 0 rfl rfl 3 (by decide) (C.2.2.2.2.1 _ q40) (fun _ h9 => h9) rfl d kk
theorem ox_g3 (C : os_cx RX0 p s m args c cc nL D cI cZ) (hO : ox_P D cI cZ h ad σ H) (hl : ls[0]? = some (.val (.ref h))) (d0 : decode cc pc = .ok (.aload_n 0, 1)) (d : decode cc (pc + 1) = .ok (.getfield 63, 3)) (kk : W p l e R s m args below meth c H locs cells slots Q (F0 m (pc + 4) ls (.int (σ 3 0) :: rest))) : W p l e R s m args below meth c H locs cells slots Q (F0 m pc ls rest) :=
  lv_aload_n C.1 C.2.1 d0 rfl hl (ox_f3 C hO d kk)
theorem ox_p3 (C : os_cx RX0 p s m args c cc nL D cI cZ) (hO : ox_P D cI cZ h ad σ H) (hS : va_S (ox_A h ad) H0 H locs) {x : Int32} (d : decode cc pc = .ok (.putfield 63, 3)) (kk : ∀ (H1 : Heap) (locs1 : List Loc), ox_P D cI cZ h ad (os_set σ 3 0 x) H1 → va_S (ox_A h ad) H0 H1 locs1 → W p l e R s m args below meth c H1 locs1 cells slots Q (F0 m (pc + 3) ls rest)) : W p l e R s m args below meth c H locs cells slots Q (F0 m pc ls (.int x :: .ref h :: rest)) :=
  va_put (D := D) (ci := 0) (v := .int x) (ty := .int) (C := RX0) (T := TX0) (N := 19) C.1 C.2.1 C.2.2.2.2.1 in_X0 tyX0 tyX0_ok nmX0 C.2.2.2.1 C.2.2.2.2.2 hO.1 hO.2 hS 0 rfl rfl 3 (by decide) (C.2.2.2.2.1 _ q40) (fun _ h9 => h9) rfl (by decide +kernel) rfl rfl (Nat.le_of_ble_eq_true rfl) d (fun H1 locs1 h1 h2 h3 => kk H1 locs1 ⟨h1, h2⟩ h3)
theorem ox_f4 (C : os_cx RX0 p s m args c cc nL D cI cZ) (hO : ox_P D cI cZ h ad σ H) (d : decode cc pc = .ok (.getfield 95, 3)) (kk : W p l e R s m args below meth c H locs cells slots Q (F0 m (pc + 3) ls (.int (σ 4 0) :: rest))) : W p l e R s m args below meth c H locs cells slots Q (F0 m pc ls (.ref h :: rest)) :=
  va_get (D := D) (ci := 0) (v := .int (σ 4 0)) (C := RX0) (T := TX0) (N := 19) C.1 C.2.1 C.2.2.2.2.1 in_X0 C.2.2.2.1 C.2.2.2.2.2 hO.1 0 rfl rfl 4 (by decide) (C.2.2.2.2.1 _ q41) (fun _ h9 => h9) rfl d kk
theorem ox_g4 (C : os_cx RX0 p s m args c cc nL D cI cZ) (hO : ox_P D cI cZ h ad σ H) (hl : ls[0]? = some (.val (.ref h))) (d0 : decode cc pc = .ok (.aload_n 0, 1)) (d : decode cc (pc + 1) = .ok (.getfield 95, 3)) (kk : W p l e R s m args below meth c H locs cells slots Q (F0 m (pc + 4) ls (.int (σ 4 0) :: rest))) : W p l e R s m args below meth c H locs cells slots Q (F0 m pc ls rest) :=
  lv_aload_n C.1 C.2.1 d0 rfl hl (ox_f4 C hO d kk)
theorem ox_p4 (C : os_cx RX0 p s m args c cc nL D cI cZ) (hO : ox_P D cI cZ h ad σ H) (hS : va_S (ox_A h ad) H0 H locs) {x : Int32} (d : decode cc pc = .ok (.putfield 95, 3)) (kk : ∀ (H1 : Heap) (locs1 : List Loc), ox_P D cI cZ h ad (os_set σ 4 0 x) H1 → va_S (ox_A h ad) H0 H1 locs1 → W p l e R s m args below meth c H1 locs1 cells slots Q (F0 m (pc + 3) ls rest)) : W p l e R s m args below meth c H locs cells slots Q (F0 m pc ls (.int x :: .ref h :: rest)) :=
  va_put (D := D) (ci := 0) (v := .int x) (ty := .int) (C := RX0) (T := TX0) (N := 19) C.1 C.2.1 C.2.2.2.2.1 in_X0 tyX0 tyX0_ok nmX0 C.2.2.2.1 C.2.2.2.2.2 hO.1 hO.2 hS 0 rfl rfl 4 (by decide) (C.2.2.2.2.1 _ q41) (fun _ h9 => h9) rfl (by decide +kernel) rfl rfl (Nat.le_of_ble_eq_true rfl) d (fun H1 locs1 h1 h2 h3 => kk H1 locs1 ⟨h1, h2⟩ h3)
theorem ox_f5 (C : os_cx RX0 p s m args c cc nL D cI cZ) (hO : ox_P D cI cZ h ad σ H) (d : decode cc pc = .ok (.getfield 19, 3)) (kk : W p l e R s m args below meth c H locs cells slots Q (F0 m (pc + 3) ls (.ref (ad 5) :: rest))) : W p l e R s m args below meth c H locs cells slots Q (F0 m pc ls (.ref h :: rest)) :=
  va_get (D := D) (ci := 0) (v := .ref (ad 5)) (C := RX0) (T := TX0) (N := 19) C.1 C.2.1 C.2.2.2.2.1 in_X0 C.2.2.2.1 C.2.2.2.2.2 hO.1 0 rfl rfl 5 (by decide) (C.2.2.2.2.1 _ q42) (fun _ h9 => h9) rfl d kk
theorem ox_g5 (C : os_cx RX0 p s m args c cc nL D cI cZ) (hO : ox_P D cI cZ h ad σ H) (hl : ls[0]? = some (.val (.ref h))) (d0 : decode cc pc = .ok (.aload_n 0, 1)) (d : decode cc (pc + 1) = .ok (.getfield 19, 3)) (kk : W p l e R s m args below meth c H locs cells slots Q (F0 m (pc + 4) ls (.ref (ad 5) :: rest))) : W p l e R s m args below meth c H locs cells slots Q (F0 m pc ls rest) :=
  lv_aload_n C.1 C.2.1 d0 rfl hl (ox_f5 C hO d kk)
theorem ox_l5 (C : os_cx RX0 p s m args c cc nL D cI cZ) (hO : ox_P D cI cZ h ad σ H) {i : Int32} {j : Nat} (hj : i.toNatClampNeg = j) (hi : vp_in i 96) (d : decode cc pc = .ok (.baload, 1)) (kk : W p l e R s m args below meth c H locs cells slots Q (F0 m (pc + 1) ls (.int (σ 5 j) :: rest))) : W p l e R s m args below meth c H locs cells slots Q (F0 m pc ls (.int i :: .ref (ad 5) :: rest)) := by
  subst hj
  exact va_zald C.1 C.2.1 C.2.2.2.2.2 hO.1 4 1 rfl rfl hi d kk
theorem ox_s5 (C : os_cx RX0 p s m args c cc nL D cI cZ) (hO : ox_P D cI cZ h ad σ H) (hS : va_S (ox_A h ad) H0 H locs) {i x : Int32} {j : Nat} (hj : i.toNatClampNeg = j) (hi : vp_in i 96) (hz : vp_nar .boolean x = x) (d : decode cc pc = .ok (.bastore, 1)) (kk : ∀ (H1 : Heap) (locs1 : List Loc), ox_P D cI cZ h ad (os_set σ 5 j x) H1 → va_S (ox_A h ad) H0 H1 locs1 → W p l e R s m args below meth c H1 locs1 cells slots Q (F0 m (pc + 1) ls rest)) : W p l e R s m args below meth c H locs cells slots Q (F0 m pc ls (.int x :: .int i :: .ref (ad 5) :: rest)) := by
  subst hj
  exact va_zast C.1 C.2.1 C.2.2.2.2.2 hO.1 hO.2 hS 4 1 rfl rfl hi d (fun H1 locs1 h1 h2 h3 => by
    rw [hz] at h1 h2
    exact kk H1 locs1 ⟨h1, h2⟩ h3)
theorem ox_f6 (C : os_cx RX0 p s m args c cc nL D cI cZ) (hO : ox_P D cI cZ h ad σ H) (d : decode cc pc = .ok (.getfield 23, 3)) (kk : W p l e R s m args below meth c H locs cells slots Q (F0 m (pc + 3) ls (.ref (ad 6) :: rest))) : W p l e R s m args below meth c H locs cells slots Q (F0 m pc ls (.ref h :: rest)) :=
  va_get (D := D) (ci := 0) (v := .ref (ad 6)) (C := RX0) (T := TX0) (N := 19) C.1 C.2.1 C.2.2.2.2.1 in_X0 C.2.2.2.1 C.2.2.2.2.2 hO.1 0 rfl rfl 6 (by decide) (C.2.2.2.2.1 _ q43) (fun _ h9 => h9) rfl d kk
theorem ox_g6 (C : os_cx RX0 p s m args c cc nL D cI cZ) (hO : ox_P D cI cZ h ad σ H) (hl : ls[0]? = some (.val (.ref h))) (d0 : decode cc pc = .ok (.aload_n 0, 1)) (d : decode cc (pc + 1) = .ok (.getfield 23, 3)) (kk : W p l e R s m args below meth c H locs cells slots Q (F0 m (pc + 4) ls (.ref (ad 6) :: rest))) : W p l e R s m args below meth c H locs cells slots Q (F0 m pc ls rest) :=
  lv_aload_n C.1 C.2.1 d0 rfl hl (ox_f6 C hO d kk)
theorem ox_l6 (C : os_cx RX0 p s m args c cc nL D cI cZ) (hO : ox_P D cI cZ h ad σ H) {i : Int32} {j : Nat} (hj : i.toNatClampNeg = j) (hi : vp_in i 96) (d : decode cc pc = .ok (.iaload, 1)) (kk : W p l e R s m args below meth c H locs cells slots Q (F0 m (pc + 1) ls (.int (σ 6 j) :: rest))) : W p l e R s m args below meth c H locs cells slots Q (F0 m pc ls (.int i :: .ref (ad 6) :: rest)) := by
  subst hj
  exact va_iald C.1 C.2.1 C.2.2.2.2.2 hO.1 5 0 rfl rfl hi d kk
theorem ox_s6 (C : os_cx RX0 p s m args c cc nL D cI cZ) (hO : ox_P D cI cZ h ad σ H) (hS : va_S (ox_A h ad) H0 H locs) {i x : Int32} {j : Nat} (hj : i.toNatClampNeg = j) (hi : vp_in i 96) (d : decode cc pc = .ok (.iastore, 1)) (kk : ∀ (H1 : Heap) (locs1 : List Loc), ox_P D cI cZ h ad (os_set σ 6 j x) H1 → va_S (ox_A h ad) H0 H1 locs1 → W p l e R s m args below meth c H1 locs1 cells slots Q (F0 m (pc + 1) ls rest)) : W p l e R s m args below meth c H locs cells slots Q (F0 m pc ls (.int x :: .int i :: .ref (ad 6) :: rest)) := by
  subst hj
  exact va_iast C.1 C.2.1 C.2.2.2.2.2 hO.1 hO.2 hS 5 0 rfl rfl hi d (fun H1 locs1 h1 h2 h3 => kk H1 locs1 ⟨h1, h2⟩ h3)
theorem ox_f7 (C : os_cx RX0 p s m args c cc nL D cI cZ) (hO : ox_P D cI cZ h ad σ H) (d : decode cc pc = .ok (.getfield 26, 3)) (kk : W p l e R s m args below meth c H locs cells slots Q (F0 m (pc + 3) ls (.ref (ad 7) :: rest))) : W p l e R s m args below meth c H locs cells slots Q (F0 m pc ls (.ref h :: rest)) :=
  va_get (D := D) (ci := 0) (v := .ref (ad 7)) (C := RX0) (T := TX0) (N := 19) C.1 C.2.1 C.2.2.2.2.1 in_X0 C.2.2.2.1 C.2.2.2.2.2 hO.1 0 rfl rfl 7 (by decide) (C.2.2.2.2.1 _ q44) (fun _ h9 => h9) rfl d kk
theorem ox_g7 (C : os_cx RX0 p s m args c cc nL D cI cZ) (hO : ox_P D cI cZ h ad σ H) (hl : ls[0]? = some (.val (.ref h))) (d0 : decode cc pc = .ok (.aload_n 0, 1)) (d : decode cc (pc + 1) = .ok (.getfield 26, 3)) (kk : W p l e R s m args below meth c H locs cells slots Q (F0 m (pc + 4) ls (.ref (ad 7) :: rest))) : W p l e R s m args below meth c H locs cells slots Q (F0 m pc ls rest) :=
  lv_aload_n C.1 C.2.1 d0 rfl hl (ox_f7 C hO d kk)
theorem ox_l7 (C : os_cx RX0 p s m args c cc nL D cI cZ) (hO : ox_P D cI cZ h ad σ H) {i : Int32} {j : Nat} (hj : i.toNatClampNeg = j) (hi : vp_in i 96) (d : decode cc pc = .ok (.iaload, 1)) (kk : W p l e R s m args below meth c H locs cells slots Q (F0 m (pc + 1) ls (.int (σ 7 j) :: rest))) : W p l e R s m args below meth c H locs cells slots Q (F0 m pc ls (.int i :: .ref (ad 7) :: rest)) := by
  subst hj
  exact va_iald C.1 C.2.1 C.2.2.2.2.2 hO.1 6 0 rfl rfl hi d kk
theorem ox_s7 (C : os_cx RX0 p s m args c cc nL D cI cZ) (hO : ox_P D cI cZ h ad σ H) (hS : va_S (ox_A h ad) H0 H locs) {i x : Int32} {j : Nat} (hj : i.toNatClampNeg = j) (hi : vp_in i 96) (d : decode cc pc = .ok (.iastore, 1)) (kk : ∀ (H1 : Heap) (locs1 : List Loc), ox_P D cI cZ h ad (os_set σ 7 j x) H1 → va_S (ox_A h ad) H0 H1 locs1 → W p l e R s m args below meth c H1 locs1 cells slots Q (F0 m (pc + 1) ls rest)) : W p l e R s m args below meth c H locs cells slots Q (F0 m pc ls (.int x :: .int i :: .ref (ad 7) :: rest)) := by
  subst hj
  exact va_iast C.1 C.2.1 C.2.2.2.2.2 hO.1 hO.2 hS 6 0 rfl rfl hi d (fun H1 locs1 h1 h2 h3 => kk H1 locs1 ⟨h1, h2⟩ h3)
theorem ox_f8 (C : os_cx RX0 p s m args c cc nL D cI cZ) (hO : ox_P D cI cZ h ad σ H) (d : decode cc pc = .ok (.getfield 29, 3)) (kk : W p l e R s m args below meth c H locs cells slots Q (F0 m (pc + 3) ls (.ref (ad 8) :: rest))) : W p l e R s m args below meth c H locs cells slots Q (F0 m pc ls (.ref h :: rest)) :=
  va_get (D := D) (ci := 0) (v := .ref (ad 8)) (C := RX0) (T := TX0) (N := 19) C.1 C.2.1 C.2.2.2.2.1 in_X0 C.2.2.2.1 C.2.2.2.2.2 hO.1 0 rfl rfl 8 (by decide) (C.2.2.2.2.1 _ q45) (fun _ h9 => h9) rfl d kk
theorem ox_g8 (C : os_cx RX0 p s m args c cc nL D cI cZ) (hO : ox_P D cI cZ h ad σ H) (hl : ls[0]? = some (.val (.ref h))) (d0 : decode cc pc = .ok (.aload_n 0, 1)) (d : decode cc (pc + 1) = .ok (.getfield 29, 3)) (kk : W p l e R s m args below meth c H locs cells slots Q (F0 m (pc + 4) ls (.ref (ad 8) :: rest))) : W p l e R s m args below meth c H locs cells slots Q (F0 m pc ls rest) :=
  lv_aload_n C.1 C.2.1 d0 rfl hl (ox_f8 C hO d kk)
theorem ox_l8 (C : os_cx RX0 p s m args c cc nL D cI cZ) (hO : ox_P D cI cZ h ad σ H) {i : Int32} {j : Nat} (hj : i.toNatClampNeg = j) (hi : vp_in i 96) (d : decode cc pc = .ok (.iaload, 1)) (kk : W p l e R s m args below meth c H locs cells slots Q (F0 m (pc + 1) ls (.int (σ 8 j) :: rest))) : W p l e R s m args below meth c H locs cells slots Q (F0 m pc ls (.int i :: .ref (ad 8) :: rest)) := by
  subst hj
  exact va_iald C.1 C.2.1 C.2.2.2.2.2 hO.1 7 0 rfl rfl hi d kk
theorem ox_s8 (C : os_cx RX0 p s m args c cc nL D cI cZ) (hO : ox_P D cI cZ h ad σ H) (hS : va_S (ox_A h ad) H0 H locs) {i x : Int32} {j : Nat} (hj : i.toNatClampNeg = j) (hi : vp_in i 96) (d : decode cc pc = .ok (.iastore, 1)) (kk : ∀ (H1 : Heap) (locs1 : List Loc), ox_P D cI cZ h ad (os_set σ 8 j x) H1 → va_S (ox_A h ad) H0 H1 locs1 → W p l e R s m args below meth c H1 locs1 cells slots Q (F0 m (pc + 1) ls rest)) : W p l e R s m args below meth c H locs cells slots Q (F0 m pc ls (.int x :: .int i :: .ref (ad 8) :: rest)) := by
  subst hj
  exact va_iast C.1 C.2.1 C.2.2.2.2.2 hO.1 hO.2 hS 7 0 rfl rfl hi d (fun H1 locs1 h1 h2 h3 => kk H1 locs1 ⟨h1, h2⟩ h3)
theorem ox_f9 (C : os_cx RX0 p s m args c cc nL D cI cZ) (hO : ox_P D cI cZ h ad σ H) (d : decode cc pc = .ok (.getfield 32, 3)) (kk : W p l e R s m args below meth c H locs cells slots Q (F0 m (pc + 3) ls (.ref (ad 9) :: rest))) : W p l e R s m args below meth c H locs cells slots Q (F0 m pc ls (.ref h :: rest)) :=
  va_get (D := D) (ci := 0) (v := .ref (ad 9)) (C := RX0) (T := TX0) (N := 19) C.1 C.2.1 C.2.2.2.2.1 in_X0 C.2.2.2.1 C.2.2.2.2.2 hO.1 0 rfl rfl 9 (by decide) (C.2.2.2.2.1 _ q46) (fun _ h9 => h9) rfl d kk
theorem ox_g9 (C : os_cx RX0 p s m args c cc nL D cI cZ) (hO : ox_P D cI cZ h ad σ H) (hl : ls[0]? = some (.val (.ref h))) (d0 : decode cc pc = .ok (.aload_n 0, 1)) (d : decode cc (pc + 1) = .ok (.getfield 32, 3)) (kk : W p l e R s m args below meth c H locs cells slots Q (F0 m (pc + 4) ls (.ref (ad 9) :: rest))) : W p l e R s m args below meth c H locs cells slots Q (F0 m pc ls rest) :=
  lv_aload_n C.1 C.2.1 d0 rfl hl (ox_f9 C hO d kk)
theorem ox_l9 (C : os_cx RX0 p s m args c cc nL D cI cZ) (hO : ox_P D cI cZ h ad σ H) {i : Int32} {j : Nat} (hj : i.toNatClampNeg = j) (hi : vp_in i 96) (d : decode cc pc = .ok (.iaload, 1)) (kk : W p l e R s m args below meth c H locs cells slots Q (F0 m (pc + 1) ls (.int (σ 9 j) :: rest))) : W p l e R s m args below meth c H locs cells slots Q (F0 m pc ls (.int i :: .ref (ad 9) :: rest)) := by
  subst hj
  exact va_iald C.1 C.2.1 C.2.2.2.2.2 hO.1 8 0 rfl rfl hi d kk
theorem ox_s9 (C : os_cx RX0 p s m args c cc nL D cI cZ) (hO : ox_P D cI cZ h ad σ H) (hS : va_S (ox_A h ad) H0 H locs) {i x : Int32} {j : Nat} (hj : i.toNatClampNeg = j) (hi : vp_in i 96) (d : decode cc pc = .ok (.iastore, 1)) (kk : ∀ (H1 : Heap) (locs1 : List Loc), ox_P D cI cZ h ad (os_set σ 9 j x) H1 → va_S (ox_A h ad) H0 H1 locs1 → W p l e R s m args below meth c H1 locs1 cells slots Q (F0 m (pc + 1) ls rest)) : W p l e R s m args below meth c H locs cells slots Q (F0 m pc ls (.int x :: .int i :: .ref (ad 9) :: rest)) := by
  subst hj
  exact va_iast C.1 C.2.1 C.2.2.2.2.2 hO.1 hO.2 hS 8 0 rfl rfl hi d (fun H1 locs1 h1 h2 h3 => kk H1 locs1 ⟨h1, h2⟩ h3)
theorem ox_f10 (C : os_cx RX0 p s m args c cc nL D cI cZ) (hO : ox_P D cI cZ h ad σ H) (d : decode cc pc = .ok (.getfield 35, 3)) (kk : W p l e R s m args below meth c H locs cells slots Q (F0 m (pc + 3) ls (.ref (ad 10) :: rest))) : W p l e R s m args below meth c H locs cells slots Q (F0 m pc ls (.ref h :: rest)) :=
  va_get (D := D) (ci := 0) (v := .ref (ad 10)) (C := RX0) (T := TX0) (N := 19) C.1 C.2.1 C.2.2.2.2.1 in_X0 C.2.2.2.1 C.2.2.2.2.2 hO.1 0 rfl rfl 10 (by decide) (C.2.2.2.2.1 _ q47) (fun _ h9 => h9) rfl d kk
theorem ox_g10 (C : os_cx RX0 p s m args c cc nL D cI cZ) (hO : ox_P D cI cZ h ad σ H) (hl : ls[0]? = some (.val (.ref h))) (d0 : decode cc pc = .ok (.aload_n 0, 1)) (d : decode cc (pc + 1) = .ok (.getfield 35, 3)) (kk : W p l e R s m args below meth c H locs cells slots Q (F0 m (pc + 4) ls (.ref (ad 10) :: rest))) : W p l e R s m args below meth c H locs cells slots Q (F0 m pc ls rest) :=
  lv_aload_n C.1 C.2.1 d0 rfl hl (ox_f10 C hO d kk)
theorem ox_l10 (C : os_cx RX0 p s m args c cc nL D cI cZ) (hO : ox_P D cI cZ h ad σ H) {i : Int32} {j : Nat} (hj : i.toNatClampNeg = j) (hi : vp_in i 96) (d : decode cc pc = .ok (.baload, 1)) (kk : W p l e R s m args below meth c H locs cells slots Q (F0 m (pc + 1) ls (.int (σ 10 j) :: rest))) : W p l e R s m args below meth c H locs cells slots Q (F0 m pc ls (.int i :: .ref (ad 10) :: rest)) := by
  subst hj
  exact va_zald C.1 C.2.1 C.2.2.2.2.2 hO.1 9 1 rfl rfl hi d kk
theorem ox_s10 (C : os_cx RX0 p s m args c cc nL D cI cZ) (hO : ox_P D cI cZ h ad σ H) (hS : va_S (ox_A h ad) H0 H locs) {i x : Int32} {j : Nat} (hj : i.toNatClampNeg = j) (hi : vp_in i 96) (hz : vp_nar .boolean x = x) (d : decode cc pc = .ok (.bastore, 1)) (kk : ∀ (H1 : Heap) (locs1 : List Loc), ox_P D cI cZ h ad (os_set σ 10 j x) H1 → va_S (ox_A h ad) H0 H1 locs1 → W p l e R s m args below meth c H1 locs1 cells slots Q (F0 m (pc + 1) ls rest)) : W p l e R s m args below meth c H locs cells slots Q (F0 m pc ls (.int x :: .int i :: .ref (ad 10) :: rest)) := by
  subst hj
  exact va_zast C.1 C.2.1 C.2.2.2.2.2 hO.1 hO.2 hS 9 1 rfl rfl hi d (fun H1 locs1 h1 h2 h3 => by
    rw [hz] at h1 h2
    exact kk H1 locs1 ⟨h1, h2⟩ h3)
theorem ox_f11 (C : os_cx RX0 p s m args c cc nL D cI cZ) (hO : ox_P D cI cZ h ad σ H) (d : decode cc pc = .ok (.getfield 38, 3)) (kk : W p l e R s m args below meth c H locs cells slots Q (F0 m (pc + 3) ls (.ref (ad 11) :: rest))) : W p l e R s m args below meth c H locs cells slots Q (F0 m pc ls (.ref h :: rest)) :=
  va_get (D := D) (ci := 0) (v := .ref (ad 11)) (C := RX0) (T := TX0) (N := 19) C.1 C.2.1 C.2.2.2.2.1 in_X0 C.2.2.2.1 C.2.2.2.2.2 hO.1 0 rfl rfl 11 (by decide) (C.2.2.2.2.1 _ q48) (fun _ h9 => h9) rfl d kk
theorem ox_g11 (C : os_cx RX0 p s m args c cc nL D cI cZ) (hO : ox_P D cI cZ h ad σ H) (hl : ls[0]? = some (.val (.ref h))) (d0 : decode cc pc = .ok (.aload_n 0, 1)) (d : decode cc (pc + 1) = .ok (.getfield 38, 3)) (kk : W p l e R s m args below meth c H locs cells slots Q (F0 m (pc + 4) ls (.ref (ad 11) :: rest))) : W p l e R s m args below meth c H locs cells slots Q (F0 m pc ls rest) :=
  lv_aload_n C.1 C.2.1 d0 rfl hl (ox_f11 C hO d kk)
theorem ox_l11 (C : os_cx RX0 p s m args c cc nL D cI cZ) (hO : ox_P D cI cZ h ad σ H) {i : Int32} {j : Nat} (hj : i.toNatClampNeg = j) (hi : vp_in i 96) (d : decode cc pc = .ok (.iaload, 1)) (kk : W p l e R s m args below meth c H locs cells slots Q (F0 m (pc + 1) ls (.int (σ 11 j) :: rest))) : W p l e R s m args below meth c H locs cells slots Q (F0 m pc ls (.int i :: .ref (ad 11) :: rest)) := by
  subst hj
  exact va_iald C.1 C.2.1 C.2.2.2.2.2 hO.1 10 0 rfl rfl hi d kk
theorem ox_s11 (C : os_cx RX0 p s m args c cc nL D cI cZ) (hO : ox_P D cI cZ h ad σ H) (hS : va_S (ox_A h ad) H0 H locs) {i x : Int32} {j : Nat} (hj : i.toNatClampNeg = j) (hi : vp_in i 96) (d : decode cc pc = .ok (.iastore, 1)) (kk : ∀ (H1 : Heap) (locs1 : List Loc), ox_P D cI cZ h ad (os_set σ 11 j x) H1 → va_S (ox_A h ad) H0 H1 locs1 → W p l e R s m args below meth c H1 locs1 cells slots Q (F0 m (pc + 1) ls rest)) : W p l e R s m args below meth c H locs cells slots Q (F0 m pc ls (.int x :: .int i :: .ref (ad 11) :: rest)) := by
  subst hj
  exact va_iast C.1 C.2.1 C.2.2.2.2.2 hO.1 hO.2 hS 10 0 rfl rfl hi d (fun H1 locs1 h1 h2 h3 => kk H1 locs1 ⟨h1, h2⟩ h3)
theorem ox_f12 (C : os_cx RX0 p s m args c cc nL D cI cZ) (hO : ox_P D cI cZ h ad σ H) (d : decode cc pc = .ok (.getfield 41, 3)) (kk : W p l e R s m args below meth c H locs cells slots Q (F0 m (pc + 3) ls (.ref (ad 12) :: rest))) : W p l e R s m args below meth c H locs cells slots Q (F0 m pc ls (.ref h :: rest)) :=
  va_get (D := D) (ci := 0) (v := .ref (ad 12)) (C := RX0) (T := TX0) (N := 19) C.1 C.2.1 C.2.2.2.2.1 in_X0 C.2.2.2.1 C.2.2.2.2.2 hO.1 0 rfl rfl 12 (by decide) (C.2.2.2.2.1 _ q49) (fun _ h9 => h9) rfl d kk
theorem ox_g12 (C : os_cx RX0 p s m args c cc nL D cI cZ) (hO : ox_P D cI cZ h ad σ H) (hl : ls[0]? = some (.val (.ref h))) (d0 : decode cc pc = .ok (.aload_n 0, 1)) (d : decode cc (pc + 1) = .ok (.getfield 41, 3)) (kk : W p l e R s m args below meth c H locs cells slots Q (F0 m (pc + 4) ls (.ref (ad 12) :: rest))) : W p l e R s m args below meth c H locs cells slots Q (F0 m pc ls rest) :=
  lv_aload_n C.1 C.2.1 d0 rfl hl (ox_f12 C hO d kk)
theorem ox_l12 (C : os_cx RX0 p s m args c cc nL D cI cZ) (hO : ox_P D cI cZ h ad σ H) {i : Int32} {j : Nat} (hj : i.toNatClampNeg = j) (hi : vp_in i 96) (d : decode cc pc = .ok (.iaload, 1)) (kk : W p l e R s m args below meth c H locs cells slots Q (F0 m (pc + 1) ls (.int (σ 12 j) :: rest))) : W p l e R s m args below meth c H locs cells slots Q (F0 m pc ls (.int i :: .ref (ad 12) :: rest)) := by
  subst hj
  exact va_iald C.1 C.2.1 C.2.2.2.2.2 hO.1 11 0 rfl rfl hi d kk
theorem ox_s12 (C : os_cx RX0 p s m args c cc nL D cI cZ) (hO : ox_P D cI cZ h ad σ H) (hS : va_S (ox_A h ad) H0 H locs) {i x : Int32} {j : Nat} (hj : i.toNatClampNeg = j) (hi : vp_in i 96) (d : decode cc pc = .ok (.iastore, 1)) (kk : ∀ (H1 : Heap) (locs1 : List Loc), ox_P D cI cZ h ad (os_set σ 12 j x) H1 → va_S (ox_A h ad) H0 H1 locs1 → W p l e R s m args below meth c H1 locs1 cells slots Q (F0 m (pc + 1) ls rest)) : W p l e R s m args below meth c H locs cells slots Q (F0 m pc ls (.int x :: .int i :: .ref (ad 12) :: rest)) := by
  subst hj
  exact va_iast C.1 C.2.1 C.2.2.2.2.2 hO.1 hO.2 hS 11 0 rfl rfl hi d (fun H1 locs1 h1 h2 h3 => kk H1 locs1 ⟨h1, h2⟩ h3)
theorem ox_f13 (C : os_cx RX0 p s m args c cc nL D cI cZ) (hO : ox_P D cI cZ h ad σ H) (d : decode cc pc = .ok (.getfield 44, 3)) (kk : W p l e R s m args below meth c H locs cells slots Q (F0 m (pc + 3) ls (.ref (ad 13) :: rest))) : W p l e R s m args below meth c H locs cells slots Q (F0 m pc ls (.ref h :: rest)) :=
  va_get (D := D) (ci := 0) (v := .ref (ad 13)) (C := RX0) (T := TX0) (N := 19) C.1 C.2.1 C.2.2.2.2.1 in_X0 C.2.2.2.1 C.2.2.2.2.2 hO.1 0 rfl rfl 13 (by decide) (C.2.2.2.2.1 _ q50) (fun _ h9 => h9) rfl d kk
theorem ox_g13 (C : os_cx RX0 p s m args c cc nL D cI cZ) (hO : ox_P D cI cZ h ad σ H) (hl : ls[0]? = some (.val (.ref h))) (d0 : decode cc pc = .ok (.aload_n 0, 1)) (d : decode cc (pc + 1) = .ok (.getfield 44, 3)) (kk : W p l e R s m args below meth c H locs cells slots Q (F0 m (pc + 4) ls (.ref (ad 13) :: rest))) : W p l e R s m args below meth c H locs cells slots Q (F0 m pc ls rest) :=
  lv_aload_n C.1 C.2.1 d0 rfl hl (ox_f13 C hO d kk)
theorem ox_l13 (C : os_cx RX0 p s m args c cc nL D cI cZ) (hO : ox_P D cI cZ h ad σ H) {i : Int32} {j : Nat} (hj : i.toNatClampNeg = j) (hi : vp_in i 4) (d : decode cc pc = .ok (.iaload, 1)) (kk : W p l e R s m args below meth c H locs cells slots Q (F0 m (pc + 1) ls (.int (σ 13 j) :: rest))) : W p l e R s m args below meth c H locs cells slots Q (F0 m pc ls (.int i :: .ref (ad 13) :: rest)) := by
  subst hj
  exact va_iald C.1 C.2.1 C.2.2.2.2.2 hO.1 12 0 rfl rfl hi d kk
theorem ox_s13 (C : os_cx RX0 p s m args c cc nL D cI cZ) (hO : ox_P D cI cZ h ad σ H) (hS : va_S (ox_A h ad) H0 H locs) {i x : Int32} {j : Nat} (hj : i.toNatClampNeg = j) (hi : vp_in i 4) (d : decode cc pc = .ok (.iastore, 1)) (kk : ∀ (H1 : Heap) (locs1 : List Loc), ox_P D cI cZ h ad (os_set σ 13 j x) H1 → va_S (ox_A h ad) H0 H1 locs1 → W p l e R s m args below meth c H1 locs1 cells slots Q (F0 m (pc + 1) ls rest)) : W p l e R s m args below meth c H locs cells slots Q (F0 m pc ls (.int x :: .int i :: .ref (ad 13) :: rest)) := by
  subst hj
  exact va_iast C.1 C.2.1 C.2.2.2.2.2 hO.1 hO.2 hS 12 0 rfl rfl hi d (fun H1 locs1 h1 h2 h3 => kk H1 locs1 ⟨h1, h2⟩ h3)
theorem ox_f14 (C : os_cx RX0 p s m args c cc nL D cI cZ) (hO : ox_P D cI cZ h ad σ H) (d : decode cc pc = .ok (.getfield 47, 3)) (kk : W p l e R s m args below meth c H locs cells slots Q (F0 m (pc + 3) ls (.ref (ad 14) :: rest))) : W p l e R s m args below meth c H locs cells slots Q (F0 m pc ls (.ref h :: rest)) :=
  va_get (D := D) (ci := 0) (v := .ref (ad 14)) (C := RX0) (T := TX0) (N := 19) C.1 C.2.1 C.2.2.2.2.1 in_X0 C.2.2.2.1 C.2.2.2.2.2 hO.1 0 rfl rfl 14 (by decide) (C.2.2.2.2.1 _ q51) (fun _ h9 => h9) rfl d kk
theorem ox_g14 (C : os_cx RX0 p s m args c cc nL D cI cZ) (hO : ox_P D cI cZ h ad σ H) (hl : ls[0]? = some (.val (.ref h))) (d0 : decode cc pc = .ok (.aload_n 0, 1)) (d : decode cc (pc + 1) = .ok (.getfield 47, 3)) (kk : W p l e R s m args below meth c H locs cells slots Q (F0 m (pc + 4) ls (.ref (ad 14) :: rest))) : W p l e R s m args below meth c H locs cells slots Q (F0 m pc ls rest) :=
  lv_aload_n C.1 C.2.1 d0 rfl hl (ox_f14 C hO d kk)
theorem ox_l14 (C : os_cx RX0 p s m args c cc nL D cI cZ) (hO : ox_P D cI cZ h ad σ H) {i : Int32} {j : Nat} (hj : i.toNatClampNeg = j) (hi : vp_in i 4) (d : decode cc pc = .ok (.iaload, 1)) (kk : W p l e R s m args below meth c H locs cells slots Q (F0 m (pc + 1) ls (.int (σ 14 j) :: rest))) : W p l e R s m args below meth c H locs cells slots Q (F0 m pc ls (.int i :: .ref (ad 14) :: rest)) := by
  subst hj
  exact va_iald C.1 C.2.1 C.2.2.2.2.2 hO.1 13 0 rfl rfl hi d kk
theorem ox_s14 (C : os_cx RX0 p s m args c cc nL D cI cZ) (hO : ox_P D cI cZ h ad σ H) (hS : va_S (ox_A h ad) H0 H locs) {i x : Int32} {j : Nat} (hj : i.toNatClampNeg = j) (hi : vp_in i 4) (d : decode cc pc = .ok (.iastore, 1)) (kk : ∀ (H1 : Heap) (locs1 : List Loc), ox_P D cI cZ h ad (os_set σ 14 j x) H1 → va_S (ox_A h ad) H0 H1 locs1 → W p l e R s m args below meth c H1 locs1 cells slots Q (F0 m (pc + 1) ls rest)) : W p l e R s m args below meth c H locs cells slots Q (F0 m pc ls (.int x :: .int i :: .ref (ad 14) :: rest)) := by
  subst hj
  exact va_iast C.1 C.2.1 C.2.2.2.2.2 hO.1 hO.2 hS 13 0 rfl rfl hi d (fun H1 locs1 h1 h2 h3 => kk H1 locs1 ⟨h1, h2⟩ h3)
theorem ox_f15 (C : os_cx RX0 p s m args c cc nL D cI cZ) (hO : ox_P D cI cZ h ad σ H) (d : decode cc pc = .ok (.getfield 50, 3)) (kk : W p l e R s m args below meth c H locs cells slots Q (F0 m (pc + 3) ls (.ref (ad 15) :: rest))) : W p l e R s m args below meth c H locs cells slots Q (F0 m pc ls (.ref h :: rest)) :=
  va_get (D := D) (ci := 0) (v := .ref (ad 15)) (C := RX0) (T := TX0) (N := 19) C.1 C.2.1 C.2.2.2.2.1 in_X0 C.2.2.2.1 C.2.2.2.2.2 hO.1 0 rfl rfl 15 (by decide) (C.2.2.2.2.1 _ q52) (fun _ h9 => h9) rfl d kk
theorem ox_g15 (C : os_cx RX0 p s m args c cc nL D cI cZ) (hO : ox_P D cI cZ h ad σ H) (hl : ls[0]? = some (.val (.ref h))) (d0 : decode cc pc = .ok (.aload_n 0, 1)) (d : decode cc (pc + 1) = .ok (.getfield 50, 3)) (kk : W p l e R s m args below meth c H locs cells slots Q (F0 m (pc + 4) ls (.ref (ad 15) :: rest))) : W p l e R s m args below meth c H locs cells slots Q (F0 m pc ls rest) :=
  lv_aload_n C.1 C.2.1 d0 rfl hl (ox_f15 C hO d kk)
theorem ox_l15 (C : os_cx RX0 p s m args c cc nL D cI cZ) (hO : ox_P D cI cZ h ad σ H) {i : Int32} {j : Nat} (hj : i.toNatClampNeg = j) (hi : vp_in i 4) (d : decode cc pc = .ok (.iaload, 1)) (kk : W p l e R s m args below meth c H locs cells slots Q (F0 m (pc + 1) ls (.int (σ 15 j) :: rest))) : W p l e R s m args below meth c H locs cells slots Q (F0 m pc ls (.int i :: .ref (ad 15) :: rest)) := by
  subst hj
  exact va_iald C.1 C.2.1 C.2.2.2.2.2 hO.1 14 0 rfl rfl hi d kk
theorem ox_s15 (C : os_cx RX0 p s m args c cc nL D cI cZ) (hO : ox_P D cI cZ h ad σ H) (hS : va_S (ox_A h ad) H0 H locs) {i x : Int32} {j : Nat} (hj : i.toNatClampNeg = j) (hi : vp_in i 4) (d : decode cc pc = .ok (.iastore, 1)) (kk : ∀ (H1 : Heap) (locs1 : List Loc), ox_P D cI cZ h ad (os_set σ 15 j x) H1 → va_S (ox_A h ad) H0 H1 locs1 → W p l e R s m args below meth c H1 locs1 cells slots Q (F0 m (pc + 1) ls rest)) : W p l e R s m args below meth c H locs cells slots Q (F0 m pc ls (.int x :: .int i :: .ref (ad 15) :: rest)) := by
  subst hj
  exact va_iast C.1 C.2.1 C.2.2.2.2.2 hO.1 hO.2 hS 14 0 rfl rfl hi d (fun H1 locs1 h1 h2 h3 => kk H1 locs1 ⟨h1, h2⟩ h3)
theorem ox_f16 (C : os_cx RX0 p s m args c cc nL D cI cZ) (hO : ox_P D cI cZ h ad σ H) (d : decode cc pc = .ok (.getfield 117, 3)) (kk : W p l e R s m args below meth c H locs cells slots Q (F0 m (pc + 3) ls (.int (σ 16 0) :: rest))) : W p l e R s m args below meth c H locs cells slots Q (F0 m pc ls (.ref h :: rest)) :=
  va_get (D := D) (ci := 0) (v := .int (σ 16 0)) (C := RX0) (T := TX0) (N := 19) C.1 C.2.1 C.2.2.2.2.1 in_X0 C.2.2.2.1 C.2.2.2.2.2 hO.1 0 rfl rfl 16 (by decide) (C.2.2.2.2.1 _ q53) (fun _ h9 => h9) rfl d kk
theorem ox_g16 (C : os_cx RX0 p s m args c cc nL D cI cZ) (hO : ox_P D cI cZ h ad σ H) (hl : ls[0]? = some (.val (.ref h))) (d0 : decode cc pc = .ok (.aload_n 0, 1)) (d : decode cc (pc + 1) = .ok (.getfield 117, 3)) (kk : W p l e R s m args below meth c H locs cells slots Q (F0 m (pc + 4) ls (.int (σ 16 0) :: rest))) : W p l e R s m args below meth c H locs cells slots Q (F0 m pc ls rest) :=
  lv_aload_n C.1 C.2.1 d0 rfl hl (ox_f16 C hO d kk)
theorem ox_p16 (C : os_cx RX0 p s m args c cc nL D cI cZ) (hO : ox_P D cI cZ h ad σ H) (hS : va_S (ox_A h ad) H0 H locs) {x : Int32} (d : decode cc pc = .ok (.putfield 117, 3)) (kk : ∀ (H1 : Heap) (locs1 : List Loc), ox_P D cI cZ h ad (os_set σ 16 0 x) H1 → va_S (ox_A h ad) H0 H1 locs1 → W p l e R s m args below meth c H1 locs1 cells slots Q (F0 m (pc + 3) ls rest)) : W p l e R s m args below meth c H locs cells slots Q (F0 m pc ls (.int x :: .ref h :: rest)) :=
  va_put (D := D) (ci := 0) (v := .int x) (ty := .int) (C := RX0) (T := TX0) (N := 19) C.1 C.2.1 C.2.2.2.2.1 in_X0 tyX0 tyX0_ok nmX0 C.2.2.2.1 C.2.2.2.2.2 hO.1 hO.2 hS 0 rfl rfl 16 (by decide) (C.2.2.2.2.1 _ q53) (fun _ h9 => h9) rfl (by decide +kernel) rfl rfl (Nat.le_of_ble_eq_true rfl) d (fun H1 locs1 h1 h2 h3 => kk H1 locs1 ⟨h1, h2⟩ h3)
theorem ox_f17 (C : os_cx RX0 p s m args c cc nL D cI cZ) (hO : ox_P D cI cZ h ad σ H) (d : decode cc pc = .ok (.getfield 53, 3)) (kk : W p l e R s m args below meth c H locs cells slots Q (F0 m (pc + 3) ls (.ref (ad 17) :: rest))) : W p l e R s m args below meth c H locs cells slots Q (F0 m pc ls (.ref h :: rest)) :=
  va_get (D := D) (ci := 0) (v := .ref (ad 17)) (C := RX0) (T := TX0) (N := 19) C.1 C.2.1 C.2.2.2.2.1 in_X0 C.2.2.2.1 C.2.2.2.2.2 hO.1 0 rfl rfl 17 (by decide) (C.2.2.2.2.1 _ q54) (fun _ h9 => h9) rfl d kk
theorem ox_g17 (C : os_cx RX0 p s m args c cc nL D cI cZ) (hO : ox_P D cI cZ h ad σ H) (hl : ls[0]? = some (.val (.ref h))) (d0 : decode cc pc = .ok (.aload_n 0, 1)) (d : decode cc (pc + 1) = .ok (.getfield 53, 3)) (kk : W p l e R s m args below meth c H locs cells slots Q (F0 m (pc + 4) ls (.ref (ad 17) :: rest))) : W p l e R s m args below meth c H locs cells slots Q (F0 m pc ls rest) :=
  lv_aload_n C.1 C.2.1 d0 rfl hl (ox_f17 C hO d kk)
theorem ox_l17 (C : os_cx RX0 p s m args c cc nL D cI cZ) (hO : ox_P D cI cZ h ad σ H) {i : Int32} {j : Nat} (hj : i.toNatClampNeg = j) (hi : vp_in i 96) (d : decode cc pc = .ok (.iaload, 1)) (kk : W p l e R s m args below meth c H locs cells slots Q (F0 m (pc + 1) ls (.int (σ 17 j) :: rest))) : W p l e R s m args below meth c H locs cells slots Q (F0 m pc ls (.int i :: .ref (ad 17) :: rest)) := by
  subst hj
  exact va_iald C.1 C.2.1 C.2.2.2.2.2 hO.1 15 0 rfl rfl hi d kk
theorem ox_s17 (C : os_cx RX0 p s m args c cc nL D cI cZ) (hO : ox_P D cI cZ h ad σ H) (hS : va_S (ox_A h ad) H0 H locs) {i x : Int32} {j : Nat} (hj : i.toNatClampNeg = j) (hi : vp_in i 96) (d : decode cc pc = .ok (.iastore, 1)) (kk : ∀ (H1 : Heap) (locs1 : List Loc), ox_P D cI cZ h ad (os_set σ 17 j x) H1 → va_S (ox_A h ad) H0 H1 locs1 → W p l e R s m args below meth c H1 locs1 cells slots Q (F0 m (pc + 1) ls rest)) : W p l e R s m args below meth c H locs cells slots Q (F0 m pc ls (.int x :: .int i :: .ref (ad 17) :: rest)) := by
  subst hj
  exact va_iast C.1 C.2.1 C.2.2.2.2.2 hO.1 hO.2 hS 15 0 rfl rfl hi d (fun H1 locs1 h1 h2 h3 => kk H1 locs1 ⟨h1, h2⟩ h3)
theorem ox_f18 (C : os_cx RX0 p s m args c cc nL D cI cZ) (hO : ox_P D cI cZ h ad σ H) (d : decode cc pc = .ok (.getfield 71, 3)) (kk : W p l e R s m args below meth c H locs cells slots Q (F0 m (pc + 3) ls (.int (σ 18 0) :: rest))) : W p l e R s m args below meth c H locs cells slots Q (F0 m pc ls (.ref h :: rest)) :=
  va_get (D := D) (ci := 0) (v := .int (σ 18 0)) (C := RX0) (T := TX0) (N := 19) C.1 C.2.1 C.2.2.2.2.1 in_X0 C.2.2.2.1 C.2.2.2.2.2 hO.1 0 rfl rfl 18 (by decide) (C.2.2.2.2.1 _ q55) (fun _ h9 => h9) rfl d kk
theorem ox_g18 (C : os_cx RX0 p s m args c cc nL D cI cZ) (hO : ox_P D cI cZ h ad σ H) (hl : ls[0]? = some (.val (.ref h))) (d0 : decode cc pc = .ok (.aload_n 0, 1)) (d : decode cc (pc + 1) = .ok (.getfield 71, 3)) (kk : W p l e R s m args below meth c H locs cells slots Q (F0 m (pc + 4) ls (.int (σ 18 0) :: rest))) : W p l e R s m args below meth c H locs cells slots Q (F0 m pc ls rest) :=
  lv_aload_n C.1 C.2.1 d0 rfl hl (ox_f18 C hO d kk)
theorem ox_p18 (C : os_cx RX0 p s m args c cc nL D cI cZ) (hO : ox_P D cI cZ h ad σ H) (hS : va_S (ox_A h ad) H0 H locs) {x : Int32} (d : decode cc pc = .ok (.putfield 71, 3)) (kk : ∀ (H1 : Heap) (locs1 : List Loc), ox_P D cI cZ h ad (os_set σ 18 0 x) H1 → va_S (ox_A h ad) H0 H1 locs1 → W p l e R s m args below meth c H1 locs1 cells slots Q (F0 m (pc + 3) ls rest)) : W p l e R s m args below meth c H locs cells slots Q (F0 m pc ls (.int x :: .ref h :: rest)) :=
  va_put (D := D) (ci := 0) (v := .int x) (ty := .int) (C := RX0) (T := TX0) (N := 19) C.1 C.2.1 C.2.2.2.2.1 in_X0 tyX0 tyX0_ok nmX0 C.2.2.2.1 C.2.2.2.2.2 hO.1 hO.2 hS 0 rfl rfl 18 (by decide) (C.2.2.2.2.1 _ q55) (fun _ h9 => h9) rfl (by decide +kernel) rfl rfl (Nat.le_of_ble_eq_true rfl) d (fun H1 locs1 h1 h2 h3 => kk H1 locs1 ⟨h1, h2⟩ h3)
theorem ox_ri (C : os_cx RX0 p s m args c cc nL D cI cZ) (hO : ox_P D cI cZ h ad σ H) (hS : va_S (ox_A h ad) s.heap H locs) {v r : Int32} {σ' : os_St} (er : v = r) (es : σ = σ') (hr : meth.sig.returnType = some .int) (hlocks : meth.locks = false) (d : decode cc pc = .ok (.ireturn, 1)) : W p l e R s m args below meth c H locs 0 0 (MQ below (va_Qi (fun r' (_ : Unit) => r' = r) (fun _ => ox_W D cI cZ h ad σ') (ox_A h ad)) args s 0 0 (ox_A h ad)) (F0 m pc ls [.int v]) := by
  subst er
  subst es
  exact W.iret C.1 C.2.1 hr (fun t ht hW => ⟨⟨v, (), rfl, rfl, by rw [ht]; exact hO, va_K.moved hW.alike C.2.2.2.2.2⟩, hS.F ht⟩) hS.2.2 d hlocks
theorem ox_rz (C : os_cx RX0 p s m args c cc nL D cI cZ) (hO : ox_P D cI cZ h ad σ H) (hS : va_S (ox_A h ad) s.heap H locs) {v r : Int32} {σ' : os_St} (er : v = r) (es : σ = σ') (hz : narrow .boolean (.int v) = .int v) (hr : meth.sig.returnType = some .boolean) (hlocks : meth.locks = false) (d : decode cc pc = .ok (.ireturn, 1)) : W p l e R s m args below meth c H locs 0 0 (MQ below (va_Qi (fun r' (_ : Unit) => r' = r) (fun _ => ox_W D cI cZ h ad σ') (ox_A h ad)) args s 0 0 (ox_A h ad)) (F0 m pc ls [.int v]) := by
  subst er
  subst es
  exact W.zret C.1 C.2.1 hr hz (fun t ht hW => ⟨⟨v, (), rfl, rfl, by rw [ht]; exact hO, va_K.moved hW.alike C.2.2.2.2.2⟩, hS.F ht⟩) hS.2.2 d hlocks
theorem ox_rv (C : os_cx RX0 p s m args c cc nL D cI cZ) (hO : ox_P D cI cZ h ad σ H) (hS : va_S (ox_A h ad) s.heap H locs) {σ' : os_St} (es : σ = σ') (hr : meth.sig.returnType = none) (hlocks : meth.locks = false) (d : decode cc pc = .ok (.return_, 1)) : W p l e R s m args below meth c H locs 0 0 (MQ below (va_Qv (fun (_ : Unit) => True) (fun _ => ox_W D cI cZ h ad σ') (ox_A h ad)) args s 0 0 (ox_A h ad)) (F0 m pc ls []) := by
  subst es
  exact W.vret C.1 C.2.1 hr (fun t ht hW => ⟨⟨(), rfl, trivial, by rw [ht]; exact hO, va_K.moved hW.alike C.2.2.2.2.2⟩, hS.F ht⟩) hS.2.2 d hlocks
theorem ox_ci0 {y : MethodName} {bytes : ByteArray} {maxL n index : Nat} {rt : FieldType} {rm : Room} {As : List Value} {σ' : os_St} {own : String} {st0 : List Value} {A0 : Nat → Prop} {r : Int32} (C : os_cx own p s m args c cc nL D cI cZ) (hM : os_MI l y bytes maxL rt rm (ox_A h ad) (.ref h :: As) (ox_W D cI cZ h ad σ) (ox_W D cI cZ h ad σ') r) (cw : CallW R s args own RX0 index y bytes maxL (some rt) (ws_ y bytes maxL (some rt)) rm 0 0 n) (hO : ox_P D cI cZ h ad σ H) (hS : va_S A0 H0 H locs) (hA : ∀ q, ox_A h ad q → A0 q) (hst : st0 = As.reverse ++ .ref h :: rest) (hn : As.length = n) (hsz : ls.size = nL) (hroom : (rest.map fun v => v.category).sum ≤ 8) (d : decode cc pc = .ok (.invokevirtual index, 3)) (hc : cells ≤ R.cells ∧ slots ≤ R.slots) (kk : ∀ (H1 : Heap) (locs1 : List Loc), ox_P D cI cZ h ad σ' H1 → va_S A0 H0 H1 locs1 → (∀ q : Nat, q < H.size → ¬ ox_A h ad q → H1[q]? = H[q]?) → W p l e R s m args below meth c H1 locs1 cells slots Q (F0 m (pc + 3) ls (.int r :: rest))) : W p l e R s m args below meth c H locs cells slots Q (F0 m pc ls st0) := by
  subst hst
  refine va_calli (va_runV (As := As) (rest := rest) ⟨C.1, C.2.1, C.2.2.1, C.2.2.2.1, C.2.2.2.2.1⟩ hM cw ⟨ox_blind, va_recv C.2.2.2.2.2 hO.1 (ci := 0) (q0 := 0) rfl rfl, fun U hU hW => ⟨rfl, by rw [hU]; exact hO, va_K.moved hW.alike C.2.2.2.2.2⟩⟩ rfl hn hsz rfl (lv_room hroom) d ⟨hc.1, hc.2⟩) hS (fun q _ h => hA q h) hA ?_
  intro r1 u t H1 locs1 ht hvm hp hB hz hk hS1
  subst hp
  exact kk H1 locs1 (by rw [← ht]; exact hB.1) hS1 hk
theorem ox_cv0 {y : MethodName} {bytes : ByteArray} {maxL n index : Nat} {rm : Room} {As : List Value} {σ' : os_St} {own : String} {st0 : List Value} {A0 : Nat → Prop} (C : os_cx own p s m args c cc nL D cI cZ) (hM : os_MV l y bytes maxL rm (ox_A h ad) (.ref h :: As) (ox_W D cI cZ h ad σ) (ox_W D cI cZ h ad σ')) (cw : CallW R s args own RX0 index y bytes maxL none (ws_ y bytes maxL none) rm 0 0 n) (hO : ox_P D cI cZ h ad σ H) (hS : va_S A0 H0 H locs) (hA : ∀ q, ox_A h ad q → A0 q) (hst : st0 = As.reverse ++ .ref h :: rest) (hn : As.length = n) (hsz : ls.size = nL) (hroom : (rest.map fun v => v.category).sum ≤ 8) (d : decode cc pc = .ok (.invokevirtual index, 3)) (hc : cells ≤ R.cells ∧ slots ≤ R.slots) (kk : ∀ (H1 : Heap) (locs1 : List Loc), ox_P D cI cZ h ad σ' H1 → va_S A0 H0 H1 locs1 → (∀ q : Nat, q < H.size → ¬ ox_A h ad q → H1[q]? = H[q]?) → W p l e R s m args below meth c H1 locs1 cells slots Q (F0 m (pc + 3) ls rest)) : W p l e R s m args below meth c H locs cells slots Q (F0 m pc ls st0) := by
  subst hst
  refine va_callv (va_runV (As := As) (rest := rest) ⟨C.1, C.2.1, C.2.2.1, C.2.2.2.1, C.2.2.2.2.1⟩ hM cw ⟨ox_blind, va_recv C.2.2.2.2.2 hO.1 (ci := 0) (q0 := 0) rfl rfl, fun U hU hW => ⟨rfl, by rw [hU]; exact hO, va_K.moved hW.alike C.2.2.2.2.2⟩⟩ rfl hn hsz rfl (lv_room hroom) d ⟨hc.1, hc.2⟩) hS (fun q _ h => hA q h) hA ?_
  intro u t H1 locs1 ht hvm hp hB hz hk hS1
  exact kk H1 locs1 (by rw [← ht]; exact hB.1) hS1 hk
theorem ox_ci {y : MethodName} {bytes : ByteArray} {maxL n index : Nat} {rt : FieldType} {rm : Room} {As : List Value} {σ' : os_St} {st0 : List Value} {r : Int32} (C : os_cx RX0 p s m args c cc nL D cI cZ) (hM : os_MI l y bytes maxL rt rm (ox_A h ad) (.ref h :: As) (ox_W D cI cZ h ad σ) (ox_W D cI cZ h ad σ') r) (cw : CallW R s args RX0 RX0 index y bytes maxL (some rt) (ws_ y bytes maxL (some rt)) rm 0 0 n) (hO : ox_P D cI cZ h ad σ H) (hS : va_S (ox_A h ad) H0 H locs) (hst : st0 = As.reverse ++ .ref h :: rest) (hn : As.length = n) (hsz : ls.size = nL) (hroom : (rest.map fun v => v.category).sum ≤ 8) (d : decode cc pc = .ok (.invokevirtual index, 3)) (hc : cells ≤ R.cells ∧ slots ≤ R.slots) (kk : ∀ (H1 : Heap) (locs1 : List Loc), ox_P D cI cZ h ad σ' H1 → va_S (ox_A h ad) H0 H1 locs1 → W p l e R s m args below meth c H1 locs1 cells slots Q (F0 m (pc + 3) ls (.int r :: rest))) : W p l e R s m args below meth c H locs cells slots Q (F0 m pc ls st0) :=
  ox_ci0 C hM cw hO hS (fun _ h => h) hst hn hsz hroom d hc (fun H1 locs1 h1 h2 _ => kk H1 locs1 h1 h2)
theorem ox_cv {y : MethodName} {bytes : ByteArray} {maxL n index : Nat} {rm : Room} {As : List Value} {σ' : os_St} {st0 : List Value} (C : os_cx RX0 p s m args c cc nL D cI cZ) (hM : os_MV l y bytes maxL rm (ox_A h ad) (.ref h :: As) (ox_W D cI cZ h ad σ) (ox_W D cI cZ h ad σ')) (cw : CallW R s args RX0 RX0 index y bytes maxL none (ws_ y bytes maxL none) rm 0 0 n) (hO : ox_P D cI cZ h ad σ H) (hS : va_S (ox_A h ad) H0 H locs) (hst : st0 = As.reverse ++ .ref h :: rest) (hn : As.length = n) (hsz : ls.size = nL) (hroom : (rest.map fun v => v.category).sum ≤ 8) (d : decode cc pc = .ok (.invokevirtual index, 3)) (hc : cells ≤ R.cells ∧ slots ≤ R.slots) (kk : ∀ (H1 : Heap) (locs1 : List Loc), ox_P D cI cZ h ad σ' H1 → va_S (ox_A h ad) H0 H1 locs1 → W p l e R s m args below meth c H1 locs1 cells slots Q (F0 m (pc + 3) ls rest)) : W p l e R s m args below meth c H locs cells slots Q (F0 m pc ls st0) :=
  ox_cv0 C hM cw hO hS (fun _ h => h) hst hn hsz hroom d hc (fun H1 locs1 h1 h2 _ => kk H1 locs1 h1 h2)
theorem ox_cs {y : MethodName} {bytes : ByteArray} {maxL n index : Nat} {rt : FieldType} {rm : Room} {As : List Value} {σ' : os_St} {st0 : List Value} {r : Int32} (C : os_cx RX0 p s m args c cc nL D cI cZ) (hM : os_MI l y bytes maxL rt rm (ox_A h ad) As (ox_W D cI cZ h ad σ) (ox_W D cI cZ h ad σ') r) (cw : CallB R s args RX0 index y bytes maxL (some rt) (ws_ y bytes maxL (some rt)) rm 0 0 n ∧ (Cond.static y).before args s = true) (hO : ox_P D cI cZ h ad σ H) (hS : va_S (ox_A h ad) H0 H locs) (hst : st0 = As.reverse ++ rest) (hn : As.length = n) (hsz : ls.size = nL) (hroom : (rest.map fun v => v.category).sum ≤ 8) (d : decode cc pc = .ok (.invokestatic index, 3)) (hc : cells ≤ R.cells ∧ slots ≤ R.slots) (kk : ∀ (H1 : Heap) (locs1 : List Loc), ox_P D cI cZ h ad σ' H1 → va_S (ox_A h ad) H0 H1 locs1 → W p l e R s m args below meth c H1 locs1 cells slots Q (F0 m (pc + 3) ls (.int r :: rest))) : W p l e R s m args below meth c H locs cells slots Q (F0 m pc ls st0) := by
  subst hst
  refine va_calli (va_runS (As := As) (rest := rest) ⟨C.1, C.2.1, C.2.2.1, C.2.2.2.1, C.2.2.2.2.1⟩ hM cw ⟨ox_blind, fun U hU hW => ⟨rfl, by rw [hU]; exact hO, va_K.moved hW.alike C.2.2.2.2.2⟩⟩ rfl hn hsz rfl (lv_room hroom) d ⟨hc.1, hc.2⟩) hS (fun q _ h => h) (fun _ h => h) ?_
  intro r1 u t H1 locs1 ht hvm hp hB hz hk hS1
  subst hp
  exact kk H1 locs1 (by rw [← ht]; exact hB.1) hS1
end OX
theorem ox_ei {l : Launch} {y : MethodName} {cc : ByteArray} {L : Nat} {rt : FieldType} {r : Int32} {rm : Room} {h : Nat} {ad : Nat → Nat} {av : List Value} {D : va_G} {cI cZ : ClassId} {σ σ' : os_St} (hy : plainName y.cls = true) (ho : y.cls = RX0) (hL : (lg_sl av).length ≤ L)
    (body : ∀ (p : Program) (e : Env) (s : State) (m : MethodId) (below : List Frame) (meth : Method) (c : Code), os_cx RX0 p s m av.toArray c cc L D cI cZ → meth.sig.returnType = (some rt) → meth.locks = false → ox_P D cI cZ h ad σ s.heap → va_S (ox_A h ad) s.heap s.heap [] → ∀ ls : Array Slot, lv_has ls L (lv_args 0 av) → W p l e rm s m av.toArray below meth c s.heap [] 0 0 (MQ below (va_Qi (fun r' (_ : Unit) => r' = r) (fun _ => ox_W D cI cZ h ad σ') (ox_A h ad)) av.toArray s 0 0 (ox_A h ad)) (F0 m 0 ls [])) : os_MI l y cc L rt rm (ox_A h ad) av (ox_W D cI cZ h ad σ) (ox_W D cI cZ h ad σ') r := by
  refine Met.ofW (cc := cc) (maxL := L) (ret := (some rt)) hy rfl ?_
  intro p e s m args below meth c s₁ B hml hv
  obtain ⟨rfl, hO, hK⟩ := hv
  have hts := atoms_spec (ws := ws_ y cc L (some rt)) B.pre
  have hts : ∀ w ∈ lw_all, w.before _ s = true := fun w h => hts w (List.mem_cons_of_mem _ h)
  have hown : s.vm.findClass RX0 = some m.cls := by rw [← ho]; exact findClass_of_methodNamed B.named
  have hl := lv_entry av (n := L) hL
  rw [lg_entry_eq]
  exact body p e s m below meth c ⟨B.exec, B.bytes, hml, hown, hts, hK⟩ B.returns B.notSynchronized hO va_S.rf _ hl
theorem ox_ev {l : Launch} {y : MethodName} {cc : ByteArray} {L : Nat} {rm : Room} {h : Nat} {ad : Nat → Nat} {av : List Value} {D : va_G} {cI cZ : ClassId} {σ σ' : os_St} (hy : plainName y.cls = true) (ho : y.cls = RX0) (hL : (lg_sl av).length ≤ L)
    (body : ∀ (p : Program) (e : Env) (s : State) (m : MethodId) (below : List Frame) (meth : Method) (c : Code), os_cx RX0 p s m av.toArray c cc L D cI cZ → meth.sig.returnType = none → meth.locks = false → ox_P D cI cZ h ad σ s.heap → va_S (ox_A h ad) s.heap s.heap [] → ∀ ls : Array Slot, lv_has ls L (lv_args 0 av) → W p l e rm s m av.toArray below meth c s.heap [] 0 0 (MQ below (va_Qv (fun (_ : Unit) => True) (fun _ => ox_W D cI cZ h ad σ') (ox_A h ad)) av.toArray s 0 0 (ox_A h ad)) (F0 m 0 ls [])) : os_MV l y cc L rm (ox_A h ad) av (ox_W D cI cZ h ad σ) (ox_W D cI cZ h ad σ') := by
  refine Met.ofW (cc := cc) (maxL := L) (ret := none) hy rfl ?_
  intro p e s m args below meth c s₁ B hml hv
  obtain ⟨rfl, hO, hK⟩ := hv
  have hts := atoms_spec (ws := ws_ y cc L none) B.pre
  have hts : ∀ w ∈ lw_all, w.before _ s = true := fun w h => hts w (List.mem_cons_of_mem _ h)
  have hown : s.vm.findClass RX0 = some m.cls := by rw [← ho]; exact findClass_of_methodNamed B.named
  have hl := lv_entry av (n := L) hL
  rw [lg_entry_eq]
  exact body p e s m below meth c ⟨B.exec, B.bytes, hml, hown, hts, hK⟩ B.returns B.notSynchronized hO va_S.rf _ hl
def om_w (cI cZ : ClassId) (h : Nat) (ad : Nat → Nat) (σ : os_St) : va_W := [(h, .inr (1, [.ref (ad 0), .ref (ad 1), .ref (ad 2), .int (σ 3 0), .int (σ 4 0), .int (σ 5 0), .ref (ad 6), .ref (ad 7), .ref (ad 8), .ref (ad 9), .ref (ad 10), .ref (ad 11), .ref (ad 12), .int (σ 13 0)])), (ad 0, .inl (cI, 4, .inl (σ 0))), (ad 1, .inl (cI, 4, .inl (σ 1))), (ad 2, .inl (cI, 4, .inl (σ 2))), (ad 6, .inl (cI, 96, .inl (σ 6))), (ad 7, .inl (cI, 96, .inl (σ 7))), (ad 8, .inl (cI, 96, .inl (σ 8))), (ad 9, .inl (cI, 96, .inl (σ 9))), (ad 10, .inl (cZ, 96, .inl (σ 10))), (ad 11, .inl (cI, 4, .inl (σ 11))), (ad 12, .inl (cI, 4, .inl (σ 12)))]
def om_L (h : Nat) (ad : Nat → Nat) : List Nat := [h, ad 0, ad 1, ad 2, ad 6, ad 7, ad 8, ad 9, ad 10, ad 11, ad 12]
def om_A (h : Nat) (ad : Nat → Nat) : Nat → Prop := fun q => q ∈ om_L h ad
def om_P (D : va_G) (cI cZ : ClassId) (h : Nat) (ad : Nat → Nat) (σ : os_St) (H : Heap) : Prop := va_P D os_cls (om_w cI cZ h ad σ) H ∧ va_D (om_A h ad) (om_w cI cZ h ad σ)
def om_W (D : va_G) (cI cZ : ClassId) (h : Nat) (ad : Nat → Nat) (σ : os_St) (U : State) : Prop := om_P D cI cZ h ad σ U.heap ∧ va_K D os_cls (os_tys cI cZ) U
abbrev om_QI (below : List Frame) (D : va_G) (cI cZ : ClassId) (h : Nat) (ad : Nat → Nat) (σ' : os_St) (r : Int32) (args : Array Value) (s : State) : State → Prop := MQ below (va_Qi (fun r' (_ : Unit) => r' = r) (fun _ => om_W D cI cZ h ad σ') (om_A h ad)) args s 0 0 (om_A h ad)
abbrev om_QV (below : List Frame) (D : va_G) (cI cZ : ClassId) (h : Nat) (ad : Nat → Nat) (σ' : os_St) (args : Array Value) (s : State) : State → Prop := MQ below (va_Qv (fun (_ : Unit) => True) (fun _ => om_W D cI cZ h ad σ') (om_A h ad)) args s 0 0 (om_A h ad)
theorem om_blind {D : va_G} {cI cZ : ClassId} {h : Nat} {ad : Nat → Nat} {σ : os_St} {av : List Value} : FrameBlind (va_Pc av (om_W D cI cZ h ad σ)) := by
  intro a U g mk q
  obtain ⟨q0, qP, qK⟩ := q
  exact ⟨q0, qP, va_K.moved (u := U) (U := U.calling g mk a) (Vm.Alike.refl U.vm) qK⟩
section OM
variable {p : Program} {l : Launch} {e : Env} {R : Room} {s : State} {m : MethodId} {args : Array Value} {below : List Frame} {meth : Method} {c : Code} {H : Heap} {locs : List Loc} {cells slots : Nat} {Q : State → Prop} {cc : ByteArray} {pc : Nat} {ls : Array Slot} {rest : List Value} {D : va_G} {cI cZ : ClassId} {h nL : Nat} {ad : Nat → Nat} {σ : os_St} {H0 : Heap}
theorem om_f0 (C : os_cx RX1 p s m args c cc nL D cI cZ) (hO : om_P D cI cZ h ad σ H) (d : decode cc pc = .ok (.getfield 7, 3)) (kk : W p l e R s m args below meth c H locs cells slots Q (F0 m (pc + 3) ls (.ref (ad 0) :: rest))) : W p l e R s m args below meth c H locs cells slots Q (F0 m pc ls (.ref h :: rest)) :=
  va_get (D := D) (ci := 1) (v := .ref (ad 0)) (C := RX1) (T := TX1) (N := 14) C.1 C.2.1 C.2.2.2.2.1 in_X1 C.2.2.2.1 C.2.2.2.2.2 hO.1 0 rfl rfl 0 (by decide) (C.2.2.2.2.1 _ q199) (fun _ h9 => h9) rfl d kk
theorem om_g0 (C : os_cx RX1 p s m args c cc nL D cI cZ) (hO : om_P D cI cZ h ad σ H) (hl : ls[0]? = some (.val (.ref h))) (d0 : decode cc pc = .ok (.aload_n 0, 1)) (d : decode cc (pc + 1) = .ok (.getfield 7, 3)) (kk : W p l e R s m args below meth c H locs cells slots Q (F0 m (pc + 4) ls (.ref (ad 0) :: rest))) : W p l e R s m args below meth c H locs cells slots Q (F0 m pc ls rest) :=
  lv_aload_n C.1 C.2.1 d0 rfl hl (om_f0 C hO d kk)
theorem om_l0 (C : os_cx RX1 p s m args c cc nL D cI cZ) (hO : om_P D cI cZ h ad σ H) {i : Int32} {j : Nat} (hj : i.toNatClampNeg = j) (hi : vp_in i 4) (d : decode cc pc = .ok (.iaload, 1)) (kk : W p l e R s m args below meth c H locs cells slots Q (F0 m (pc + 1) ls (.int (σ 0 j) :: rest))) : W p l e R s m args below meth c H locs cells slots Q (F0 m pc ls (.int i :: .ref (ad 0) :: rest)) := by
  subst hj
  exact va_iald C.1 C.2.1 C.2.2.2.2.2 hO.1 1 0 rfl rfl hi d kk
theorem om_s0 (C : os_cx RX1 p s m args c cc nL D cI cZ) (hO : om_P D cI cZ h ad σ H) (hS : va_S (om_A h ad) H0 H locs) {i x : Int32} {j : Nat} (hj : i.toNatClampNeg = j) (hi : vp_in i 4) (d : decode cc pc = .ok (.iastore, 1)) (kk : ∀ (H1 : Heap) (locs1 : List Loc), om_P D cI cZ h ad (os_set σ 0 j x) H1 → va_S (om_A h ad) H0 H1 locs1 → W p l e R s m args below meth c H1 locs1 cells slots Q (F0 m (pc + 1) ls rest)) : W p l e R s m args below meth c H locs cells slots Q (F0 m pc ls (.int x :: .int i :: .ref (ad 0) :: rest)) := by
  subst hj
  exact va_iast C.1 C.2.1 C.2.2.2.2.2 hO.1 hO.2 hS 1 0 rfl rfl hi d (fun H1 locs1 h1 h2 h3 => kk H1 locs1 ⟨h1, h2⟩ h3)
theorem om_f1 (C : os_cx RX1 p s m args c cc nL D cI cZ) (hO : om_P D cI cZ h ad σ H) (d : decode cc pc = .ok (.getfield 13, 3)) (kk : W p l e R s m args below meth c H locs cells slots Q (F0 m (pc + 3) ls (.ref (ad 1) :: rest))) : W p l e R s m args below meth c H locs cells slots Q (F0 m pc ls (.ref h :: rest)) :=
  va_get (D := D) (ci := 1) (v := .ref (ad 1)) (C := RX1) (T := TX1) (N := 14) C.1 C.2.1 C.2.2.2.2.1 in_X1 C.2.2.2.1 C.2.2.2.2.2 hO.1 0 rfl rfl 1 (by decide) (C.2.2.2.2.1 _ q200) (fun _ h9 => h9) rfl d kk
theorem om_g1 (C : os_cx RX1 p s m args c cc nL D cI cZ) (hO : om_P D cI cZ h ad σ H) (hl : ls[0]? = some (.val (.ref h))) (d0 : decode cc pc = .ok (.aload_n 0, 1)) (d : decode cc (pc + 1) = .ok (.getfield 13, 3)) (kk : W p l e R s m args below meth c H locs cells slots Q (F0 m (pc + 4) ls (.ref (ad 1) :: rest))) : W p l e R s m args below meth c H locs cells slots Q (F0 m pc ls rest) :=
  lv_aload_n C.1 C.2.1 d0 rfl hl (om_f1 C hO d kk)
theorem om_l1 (C : os_cx RX1 p s m args c cc nL D cI cZ) (hO : om_P D cI cZ h ad σ H) {i : Int32} {j : Nat} (hj : i.toNatClampNeg = j) (hi : vp_in i 4) (d : decode cc pc = .ok (.iaload, 1)) (kk : W p l e R s m args below meth c H locs cells slots Q (F0 m (pc + 1) ls (.int (σ 1 j) :: rest))) : W p l e R s m args below meth c H locs cells slots Q (F0 m pc ls (.int i :: .ref (ad 1) :: rest)) := by
  subst hj
  exact va_iald C.1 C.2.1 C.2.2.2.2.2 hO.1 2 0 rfl rfl hi d kk
theorem om_s1 (C : os_cx RX1 p s m args c cc nL D cI cZ) (hO : om_P D cI cZ h ad σ H) (hS : va_S (om_A h ad) H0 H locs) {i x : Int32} {j : Nat} (hj : i.toNatClampNeg = j) (hi : vp_in i 4) (d : decode cc pc = .ok (.iastore, 1)) (kk : ∀ (H1 : Heap) (locs1 : List Loc), om_P D cI cZ h ad (os_set σ 1 j x) H1 → va_S (om_A h ad) H0 H1 locs1 → W p l e R s m args below meth c H1 locs1 cells slots Q (F0 m (pc + 1) ls rest)) : W p l e R s m args below meth c H locs cells slots Q (F0 m pc ls (.int x :: .int i :: .ref (ad 1) :: rest)) := by
  subst hj
  exact va_iast C.1 C.2.1 C.2.2.2.2.2 hO.1 hO.2 hS 2 0 rfl rfl hi d (fun H1 locs1 h1 h2 h3 => kk H1 locs1 ⟨h1, h2⟩ h3)
theorem om_f2 (C : os_cx RX1 p s m args c cc nL D cI cZ) (hO : om_P D cI cZ h ad σ H) (d : decode cc pc = .ok (.getfield 16, 3)) (kk : W p l e R s m args below meth c H locs cells slots Q (F0 m (pc + 3) ls (.ref (ad 2) :: rest))) : W p l e R s m args below meth c H locs cells slots Q (F0 m pc ls (.ref h :: rest)) :=
  va_get (D := D) (ci := 1) (v := .ref (ad 2)) (C := RX1) (T := TX1) (N := 14) C.1 C.2.1 C.2.2.2.2.1 in_X1 C.2.2.2.1 C.2.2.2.2.2 hO.1 0 rfl rfl 2 (by decide) (C.2.2.2.2.1 _ q201) (fun _ h9 => h9) rfl d kk
theorem om_g2 (C : os_cx RX1 p s m args c cc nL D cI cZ) (hO : om_P D cI cZ h ad σ H) (hl : ls[0]? = some (.val (.ref h))) (d0 : decode cc pc = .ok (.aload_n 0, 1)) (d : decode cc (pc + 1) = .ok (.getfield 16, 3)) (kk : W p l e R s m args below meth c H locs cells slots Q (F0 m (pc + 4) ls (.ref (ad 2) :: rest))) : W p l e R s m args below meth c H locs cells slots Q (F0 m pc ls rest) :=
  lv_aload_n C.1 C.2.1 d0 rfl hl (om_f2 C hO d kk)
theorem om_l2 (C : os_cx RX1 p s m args c cc nL D cI cZ) (hO : om_P D cI cZ h ad σ H) {i : Int32} {j : Nat} (hj : i.toNatClampNeg = j) (hi : vp_in i 4) (d : decode cc pc = .ok (.iaload, 1)) (kk : W p l e R s m args below meth c H locs cells slots Q (F0 m (pc + 1) ls (.int (σ 2 j) :: rest))) : W p l e R s m args below meth c H locs cells slots Q (F0 m pc ls (.int i :: .ref (ad 2) :: rest)) := by
  subst hj
  exact va_iald C.1 C.2.1 C.2.2.2.2.2 hO.1 3 0 rfl rfl hi d kk
theorem om_s2 (C : os_cx RX1 p s m args c cc nL D cI cZ) (hO : om_P D cI cZ h ad σ H) (hS : va_S (om_A h ad) H0 H locs) {i x : Int32} {j : Nat} (hj : i.toNatClampNeg = j) (hi : vp_in i 4) (d : decode cc pc = .ok (.iastore, 1)) (kk : ∀ (H1 : Heap) (locs1 : List Loc), om_P D cI cZ h ad (os_set σ 2 j x) H1 → va_S (om_A h ad) H0 H1 locs1 → W p l e R s m args below meth c H1 locs1 cells slots Q (F0 m (pc + 1) ls rest)) : W p l e R s m args below meth c H locs cells slots Q (F0 m pc ls (.int x :: .int i :: .ref (ad 2) :: rest)) := by
  subst hj
  exact va_iast C.1 C.2.1 C.2.2.2.2.2 hO.1 hO.2 hS 3 0 rfl rfl hi d (fun H1 locs1 h1 h2 h3 => kk H1 locs1 ⟨h1, h2⟩ h3)
theorem om_f3 (C : os_cx RX1 p s m args c cc nL D cI cZ) (hO : om_P D cI cZ h ad σ H) (d : decode cc pc = .ok (.getfield 49, 3)) (kk : W p l e R s m args below meth c H locs cells slots Q (F0 m (pc + 3) ls (.int (σ 3 0) :: rest))) : W p l e R s m args below meth c H locs cells slots Q (F0 m pc ls (.ref h :: rest)) :=
  va_get (D := D) (ci := 1) (v := .int (σ 3 0)) (C := RX1) (T := TX1) (N := 14) C.1 C.2.1 C.2.2.2.2.1 in_X1 C.2.2.2.1 C.2.2.2.2.2 hO.1 0 rfl rfl 3 (by decide) (C.2.2.2.2.1 _ q202) (fun _ h9 => h9) rfl d kk
theorem om_g3 (C : os_cx RX1 p s m args c cc nL D cI cZ) (hO : om_P D cI cZ h ad σ H) (hl : ls[0]? = some (.val (.ref h))) (d0 : decode cc pc = .ok (.aload_n 0, 1)) (d : decode cc (pc + 1) = .ok (.getfield 49, 3)) (kk : W p l e R s m args below meth c H locs cells slots Q (F0 m (pc + 4) ls (.int (σ 3 0) :: rest))) : W p l e R s m args below meth c H locs cells slots Q (F0 m pc ls rest) :=
  lv_aload_n C.1 C.2.1 d0 rfl hl (om_f3 C hO d kk)
theorem om_p3 (C : os_cx RX1 p s m args c cc nL D cI cZ) (hO : om_P D cI cZ h ad σ H) (hS : va_S (om_A h ad) H0 H locs) {x : Int32} (d : decode cc pc = .ok (.putfield 49, 3)) (kk : ∀ (H1 : Heap) (locs1 : List Loc), om_P D cI cZ h ad (os_set σ 3 0 x) H1 → va_S (om_A h ad) H0 H1 locs1 → W p l e R s m args below meth c H1 locs1 cells slots Q (F0 m (pc + 3) ls rest)) : W p l e R s m args below meth c H locs cells slots Q (F0 m pc ls (.int x :: .ref h :: rest)) :=
  va_put (D := D) (ci := 1) (v := .int x) (ty := .int) (C := RX1) (T := TX1) (N := 14) C.1 C.2.1 C.2.2.2.2.1 in_X1 tyX1 tyX1_ok nmX1 C.2.2.2.1 C.2.2.2.2.2 hO.1 hO.2 hS 0 rfl rfl 3 (by decide) (C.2.2.2.2.1 _ q202) (fun _ h9 => h9) rfl (by decide +kernel) rfl rfl (Nat.le_of_ble_eq_true rfl) d (fun H1 locs1 h1 h2 h3 => kk H1 locs1 ⟨h1, h2⟩ h3)
theorem om_f4 (C : os_cx RX1 p s m args c cc nL D cI cZ) (hO : om_P D cI cZ h ad σ H) (d : decode cc pc = .ok (.getfield 41, 3)) (kk : W p l e R s m args below meth c H locs cells slots Q (F0 m (pc + 3) ls (.int (σ 4 0) :: rest))) : W p l e R s m args below meth c H locs cells slots Q (F0 m pc ls (.ref h :: rest)) :=
  va_get (D := D) (ci := 1) (v := .int (σ 4 0)) (C := RX1) (T := TX1) (N := 14) C.1 C.2.1 C.2.2.2.2.1 in_X1 C.2.2.2.1 C.2.2.2.2.2 hO.1 0 rfl rfl 4 (by decide) (C.2.2.2.2.1 _ q203) (fun _ h9 => h9) rfl d kk
theorem om_g4 (C : os_cx RX1 p s m args c cc nL D cI cZ) (hO : om_P D cI cZ h ad σ H) (hl : ls[0]? = some (.val (.ref h))) (d0 : decode cc pc = .ok (.aload_n 0, 1)) (d : decode cc (pc + 1) = .ok (.getfield 41, 3)) (kk : W p l e R s m args below meth c H locs cells slots Q (F0 m (pc + 4) ls (.int (σ 4 0) :: rest))) : W p l e R s m args below meth c H locs cells slots Q (F0 m pc ls rest) :=
  lv_aload_n C.1 C.2.1 d0 rfl hl (om_f4 C hO d kk)
theorem om_p4 (C : os_cx RX1 p s m args c cc nL D cI cZ) (hO : om_P D cI cZ h ad σ H) (hS : va_S (om_A h ad) H0 H locs) {x : Int32} (d : decode cc pc = .ok (.putfield 41, 3)) (kk : ∀ (H1 : Heap) (locs1 : List Loc), om_P D cI cZ h ad (os_set σ 4 0 x) H1 → va_S (om_A h ad) H0 H1 locs1 → W p l e R s m args below meth c H1 locs1 cells slots Q (F0 m (pc + 3) ls rest)) : W p l e R s m args below meth c H locs cells slots Q (F0 m pc ls (.int x :: .ref h :: rest)) :=
  va_put (D := D) (ci := 1) (v := .int x) (ty := .int) (C := RX1) (T := TX1) (N := 14) C.1 C.2.1 C.2.2.2.2.1 in_X1 tyX1 tyX1_ok nmX1 C.2.2.2.1 C.2.2.2.2.2 hO.1 hO.2 hS 0 rfl rfl 4 (by decide) (C.2.2.2.2.1 _ q203) (fun _ h9 => h9) rfl (by decide +kernel) rfl rfl (Nat.le_of_ble_eq_true rfl) d (fun H1 locs1 h1 h2 h3 => kk H1 locs1 ⟨h1, h2⟩ h3)
theorem om_f5 (C : os_cx RX1 p s m args c cc nL D cI cZ) (hO : om_P D cI cZ h ad σ H) (d : decode cc pc = .ok (.getfield 52, 3)) (kk : W p l e R s m args below meth c H locs cells slots Q (F0 m (pc + 3) ls (.int (σ 5 0) :: rest))) : W p l e R s m args below meth c H locs cells slots Q (F0 m pc ls (.ref h :: rest)) :=
  va_get (D := D) (ci := 1) (v := .int (σ 5 0)) (C := RX1) (T := TX1) (N := 14) C.1 C.2.1 C.2.2.2.2.1 in_X1 C.2.2.2.1 C.2.2.2.2.2 hO.1 0 rfl rfl 5 (by decide) (C.2.2.2.2.1 _ q204) (fun _ h9 => h9) rfl d kk
theorem om_g5 (C : os_cx RX1 p s m args c cc nL D cI cZ) (hO : om_P D cI cZ h ad σ H) (hl : ls[0]? = some (.val (.ref h))) (d0 : decode cc pc = .ok (.aload_n 0, 1)) (d : decode cc (pc + 1) = .ok (.getfield 52, 3)) (kk : W p l e R s m args below meth c H locs cells slots Q (F0 m (pc + 4) ls (.int (σ 5 0) :: rest))) : W p l e R s m args below meth c H locs cells slots Q (F0 m pc ls rest) :=
  lv_aload_n C.1 C.2.1 d0 rfl hl (om_f5 C hO d kk)
theorem om_p5 (C : os_cx RX1 p s m args c cc nL D cI cZ) (hO : om_P D cI cZ h ad σ H) (hS : va_S (om_A h ad) H0 H locs) {x : Int32} (d : decode cc pc = .ok (.putfield 52, 3)) (kk : ∀ (H1 : Heap) (locs1 : List Loc), om_P D cI cZ h ad (os_set σ 5 0 x) H1 → va_S (om_A h ad) H0 H1 locs1 → W p l e R s m args below meth c H1 locs1 cells slots Q (F0 m (pc + 3) ls rest)) : W p l e R s m args below meth c H locs cells slots Q (F0 m pc ls (.int x :: .ref h :: rest)) :=
  va_put (D := D) (ci := 1) (v := .int x) (ty := .int) (C := RX1) (T := TX1) (N := 14) C.1 C.2.1 C.2.2.2.2.1 in_X1 tyX1 tyX1_ok nmX1 C.2.2.2.1 C.2.2.2.2.2 hO.1 hO.2 hS 0 rfl rfl 5 (by decide) (C.2.2.2.2.1 _ q204) (fun _ h9 => h9) rfl (by decide +kernel) rfl rfl (Nat.le_of_ble_eq_true rfl) d (fun H1 locs1 h1 h2 h3 => kk H1 locs1 ⟨h1, h2⟩ h3)
theorem om_f6 (C : os_cx RX1 p s m args c cc nL D cI cZ) (hO : om_P D cI cZ h ad σ H) (d : decode cc pc = .ok (.getfield 19, 3)) (kk : W p l e R s m args below meth c H locs cells slots Q (F0 m (pc + 3) ls (.ref (ad 6) :: rest))) : W p l e R s m args below meth c H locs cells slots Q (F0 m pc ls (.ref h :: rest)) :=
  va_get (D := D) (ci := 1) (v := .ref (ad 6)) (C := RX1) (T := TX1) (N := 14) C.1 C.2.1 C.2.2.2.2.1 in_X1 C.2.2.2.1 C.2.2.2.2.2 hO.1 0 rfl rfl 6 (by decide) (C.2.2.2.2.1 _ q205) (fun _ h9 => h9) rfl d kk
theorem om_g6 (C : os_cx RX1 p s m args c cc nL D cI cZ) (hO : om_P D cI cZ h ad σ H) (hl : ls[0]? = some (.val (.ref h))) (d0 : decode cc pc = .ok (.aload_n 0, 1)) (d : decode cc (pc + 1) = .ok (.getfield 19, 3)) (kk : W p l e R s m args below meth c H locs cells slots Q (F0 m (pc + 4) ls (.ref (ad 6) :: rest))) : W p l e R s m args below meth c H locs cells slots Q (F0 m pc ls rest) :=
  lv_aload_n C.1 C.2.1 d0 rfl hl (om_f6 C hO d kk)
theorem om_l6 (C : os_cx RX1 p s m args c cc nL D cI cZ) (hO : om_P D cI cZ h ad σ H) {i : Int32} {j : Nat} (hj : i.toNatClampNeg = j) (hi : vp_in i 96) (d : decode cc pc = .ok (.iaload, 1)) (kk : W p l e R s m args below meth c H locs cells slots Q (F0 m (pc + 1) ls (.int (σ 6 j) :: rest))) : W p l e R s m args below meth c H locs cells slots Q (F0 m pc ls (.int i :: .ref (ad 6) :: rest)) := by
  subst hj
  exact va_iald C.1 C.2.1 C.2.2.2.2.2 hO.1 4 0 rfl rfl hi d kk
theorem om_s6 (C : os_cx RX1 p s m args c cc nL D cI cZ) (hO : om_P D cI cZ h ad σ H) (hS : va_S (om_A h ad) H0 H locs) {i x : Int32} {j : Nat} (hj : i.toNatClampNeg = j) (hi : vp_in i 96) (d : decode cc pc = .ok (.iastore, 1)) (kk : ∀ (H1 : Heap) (locs1 : List Loc), om_P D cI cZ h ad (os_set σ 6 j x) H1 → va_S (om_A h ad) H0 H1 locs1 → W p l e R s m args below meth c H1 locs1 cells slots Q (F0 m (pc + 1) ls rest)) : W p l e R s m args below meth c H locs cells slots Q (F0 m pc ls (.int x :: .int i :: .ref (ad 6) :: rest)) := by
  subst hj
  exact va_iast C.1 C.2.1 C.2.2.2.2.2 hO.1 hO.2 hS 4 0 rfl rfl hi d (fun H1 locs1 h1 h2 h3 => kk H1 locs1 ⟨h1, h2⟩ h3)
theorem om_f7 (C : os_cx RX1 p s m args c cc nL D cI cZ) (hO : om_P D cI cZ h ad σ H) (d : decode cc pc = .ok (.getfield 22, 3)) (kk : W p l e R s m args below meth c H locs cells slots Q (F0 m (pc + 3) ls (.ref (ad 7) :: rest))) : W p l e R s m args below meth c H locs cells slots Q (F0 m pc ls (.ref h :: rest)) :=
  va_get (D := D) (ci := 1) (v := .ref (ad 7)) (C := RX1) (T := TX1) (N := 14) C.1 C.2.1 C.2.2.2.2.1 in_X1 C.2.2.2.1 C.2.2.2.2.2 hO.1 0 rfl rfl 7 (by decide) (C.2.2.2.2.1 _ q206) (fun _ h9 => h9) rfl d kk
theorem om_g7 (C : os_cx RX1 p s m args c cc nL D cI cZ) (hO : om_P D cI cZ h ad σ H) (hl : ls[0]? = some (.val (.ref h))) (d0 : decode cc pc = .ok (.aload_n 0, 1)) (d : decode cc (pc + 1) = .ok (.getfield 22, 3)) (kk : W p l e R s m args below meth c H locs cells slots Q (F0 m (pc + 4) ls (.ref (ad 7) :: rest))) : W p l e R s m args below meth c H locs cells slots Q (F0 m pc ls rest) :=
  lv_aload_n C.1 C.2.1 d0 rfl hl (om_f7 C hO d kk)
theorem om_l7 (C : os_cx RX1 p s m args c cc nL D cI cZ) (hO : om_P D cI cZ h ad σ H) {i : Int32} {j : Nat} (hj : i.toNatClampNeg = j) (hi : vp_in i 96) (d : decode cc pc = .ok (.iaload, 1)) (kk : W p l e R s m args below meth c H locs cells slots Q (F0 m (pc + 1) ls (.int (σ 7 j) :: rest))) : W p l e R s m args below meth c H locs cells slots Q (F0 m pc ls (.int i :: .ref (ad 7) :: rest)) := by
  subst hj
  exact va_iald C.1 C.2.1 C.2.2.2.2.2 hO.1 5 0 rfl rfl hi d kk
theorem om_s7 (C : os_cx RX1 p s m args c cc nL D cI cZ) (hO : om_P D cI cZ h ad σ H) (hS : va_S (om_A h ad) H0 H locs) {i x : Int32} {j : Nat} (hj : i.toNatClampNeg = j) (hi : vp_in i 96) (d : decode cc pc = .ok (.iastore, 1)) (kk : ∀ (H1 : Heap) (locs1 : List Loc), om_P D cI cZ h ad (os_set σ 7 j x) H1 → va_S (om_A h ad) H0 H1 locs1 → W p l e R s m args below meth c H1 locs1 cells slots Q (F0 m (pc + 1) ls rest)) : W p l e R s m args below meth c H locs cells slots Q (F0 m pc ls (.int x :: .int i :: .ref (ad 7) :: rest)) := by
  subst hj
  exact va_iast C.1 C.2.1 C.2.2.2.2.2 hO.1 hO.2 hS 5 0 rfl rfl hi d (fun H1 locs1 h1 h2 h3 => kk H1 locs1 ⟨h1, h2⟩ h3)
theorem om_f8 (C : os_cx RX1 p s m args c cc nL D cI cZ) (hO : om_P D cI cZ h ad σ H) (d : decode cc pc = .ok (.getfield 25, 3)) (kk : W p l e R s m args below meth c H locs cells slots Q (F0 m (pc + 3) ls (.ref (ad 8) :: rest))) : W p l e R s m args below meth c H locs cells slots Q (F0 m pc ls (.ref h :: rest)) :=
  va_get (D := D) (ci := 1) (v := .ref (ad 8)) (C := RX1) (T := TX1) (N := 14) C.1 C.2.1 C.2.2.2.2.1 in_X1 C.2.2.2.1 C.2.2.2.2.2 hO.1 0 rfl rfl 8 (by decide) (C.2.2.2.2.1 _ q207) (fun _ h9 => h9) rfl d kk
theorem om_g8 (C : os_cx RX1 p s m args c cc nL D cI cZ) (hO : om_P D cI cZ h ad σ H) (hl : ls[0]? = some (.val (.ref h))) (d0 : decode cc pc = .ok (.aload_n 0, 1)) (d : decode cc (pc + 1) = .ok (.getfield 25, 3)) (kk : W p l e R s m args below meth c H locs cells slots Q (F0 m (pc + 4) ls (.ref (ad 8) :: rest))) : W p l e R s m args below meth c H locs cells slots Q (F0 m pc ls rest) :=
  lv_aload_n C.1 C.2.1 d0 rfl hl (om_f8 C hO d kk)
theorem om_l8 (C : os_cx RX1 p s m args c cc nL D cI cZ) (hO : om_P D cI cZ h ad σ H) {i : Int32} {j : Nat} (hj : i.toNatClampNeg = j) (hi : vp_in i 96) (d : decode cc pc = .ok (.iaload, 1)) (kk : W p l e R s m args below meth c H locs cells slots Q (F0 m (pc + 1) ls (.int (σ 8 j) :: rest))) : W p l e R s m args below meth c H locs cells slots Q (F0 m pc ls (.int i :: .ref (ad 8) :: rest)) := by
  subst hj
  exact va_iald C.1 C.2.1 C.2.2.2.2.2 hO.1 6 0 rfl rfl hi d kk
theorem om_s8 (C : os_cx RX1 p s m args c cc nL D cI cZ) (hO : om_P D cI cZ h ad σ H) (hS : va_S (om_A h ad) H0 H locs) {i x : Int32} {j : Nat} (hj : i.toNatClampNeg = j) (hi : vp_in i 96) (d : decode cc pc = .ok (.iastore, 1)) (kk : ∀ (H1 : Heap) (locs1 : List Loc), om_P D cI cZ h ad (os_set σ 8 j x) H1 → va_S (om_A h ad) H0 H1 locs1 → W p l e R s m args below meth c H1 locs1 cells slots Q (F0 m (pc + 1) ls rest)) : W p l e R s m args below meth c H locs cells slots Q (F0 m pc ls (.int x :: .int i :: .ref (ad 8) :: rest)) := by
  subst hj
  exact va_iast C.1 C.2.1 C.2.2.2.2.2 hO.1 hO.2 hS 6 0 rfl rfl hi d (fun H1 locs1 h1 h2 h3 => kk H1 locs1 ⟨h1, h2⟩ h3)
theorem om_f9 (C : os_cx RX1 p s m args c cc nL D cI cZ) (hO : om_P D cI cZ h ad σ H) (d : decode cc pc = .ok (.getfield 28, 3)) (kk : W p l e R s m args below meth c H locs cells slots Q (F0 m (pc + 3) ls (.ref (ad 9) :: rest))) : W p l e R s m args below meth c H locs cells slots Q (F0 m pc ls (.ref h :: rest)) :=
  va_get (D := D) (ci := 1) (v := .ref (ad 9)) (C := RX1) (T := TX1) (N := 14) C.1 C.2.1 C.2.2.2.2.1 in_X1 C.2.2.2.1 C.2.2.2.2.2 hO.1 0 rfl rfl 9 (by decide) (C.2.2.2.2.1 _ q208) (fun _ h9 => h9) rfl d kk
theorem om_g9 (C : os_cx RX1 p s m args c cc nL D cI cZ) (hO : om_P D cI cZ h ad σ H) (hl : ls[0]? = some (.val (.ref h))) (d0 : decode cc pc = .ok (.aload_n 0, 1)) (d : decode cc (pc + 1) = .ok (.getfield 28, 3)) (kk : W p l e R s m args below meth c H locs cells slots Q (F0 m (pc + 4) ls (.ref (ad 9) :: rest))) : W p l e R s m args below meth c H locs cells slots Q (F0 m pc ls rest) :=
  lv_aload_n C.1 C.2.1 d0 rfl hl (om_f9 C hO d kk)
theorem om_l9 (C : os_cx RX1 p s m args c cc nL D cI cZ) (hO : om_P D cI cZ h ad σ H) {i : Int32} {j : Nat} (hj : i.toNatClampNeg = j) (hi : vp_in i 96) (d : decode cc pc = .ok (.iaload, 1)) (kk : W p l e R s m args below meth c H locs cells slots Q (F0 m (pc + 1) ls (.int (σ 9 j) :: rest))) : W p l e R s m args below meth c H locs cells slots Q (F0 m pc ls (.int i :: .ref (ad 9) :: rest)) := by
  subst hj
  exact va_iald C.1 C.2.1 C.2.2.2.2.2 hO.1 7 0 rfl rfl hi d kk
theorem om_s9 (C : os_cx RX1 p s m args c cc nL D cI cZ) (hO : om_P D cI cZ h ad σ H) (hS : va_S (om_A h ad) H0 H locs) {i x : Int32} {j : Nat} (hj : i.toNatClampNeg = j) (hi : vp_in i 96) (d : decode cc pc = .ok (.iastore, 1)) (kk : ∀ (H1 : Heap) (locs1 : List Loc), om_P D cI cZ h ad (os_set σ 9 j x) H1 → va_S (om_A h ad) H0 H1 locs1 → W p l e R s m args below meth c H1 locs1 cells slots Q (F0 m (pc + 1) ls rest)) : W p l e R s m args below meth c H locs cells slots Q (F0 m pc ls (.int x :: .int i :: .ref (ad 9) :: rest)) := by
  subst hj
  exact va_iast C.1 C.2.1 C.2.2.2.2.2 hO.1 hO.2 hS 7 0 rfl rfl hi d (fun H1 locs1 h1 h2 h3 => kk H1 locs1 ⟨h1, h2⟩ h3)
theorem om_f10 (C : os_cx RX1 p s m args c cc nL D cI cZ) (hO : om_P D cI cZ h ad σ H) (d : decode cc pc = .ok (.getfield 31, 3)) (kk : W p l e R s m args below meth c H locs cells slots Q (F0 m (pc + 3) ls (.ref (ad 10) :: rest))) : W p l e R s m args below meth c H locs cells slots Q (F0 m pc ls (.ref h :: rest)) :=
  va_get (D := D) (ci := 1) (v := .ref (ad 10)) (C := RX1) (T := TX1) (N := 14) C.1 C.2.1 C.2.2.2.2.1 in_X1 C.2.2.2.1 C.2.2.2.2.2 hO.1 0 rfl rfl 10 (by decide) (C.2.2.2.2.1 _ q209) (fun _ h9 => h9) rfl d kk
theorem om_g10 (C : os_cx RX1 p s m args c cc nL D cI cZ) (hO : om_P D cI cZ h ad σ H) (hl : ls[0]? = some (.val (.ref h))) (d0 : decode cc pc = .ok (.aload_n 0, 1)) (d : decode cc (pc + 1) = .ok (.getfield 31, 3)) (kk : W p l e R s m args below meth c H locs cells slots Q (F0 m (pc + 4) ls (.ref (ad 10) :: rest))) : W p l e R s m args below meth c H locs cells slots Q (F0 m pc ls rest) :=
  lv_aload_n C.1 C.2.1 d0 rfl hl (om_f10 C hO d kk)
theorem om_l10 (C : os_cx RX1 p s m args c cc nL D cI cZ) (hO : om_P D cI cZ h ad σ H) {i : Int32} {j : Nat} (hj : i.toNatClampNeg = j) (hi : vp_in i 96) (d : decode cc pc = .ok (.baload, 1)) (kk : W p l e R s m args below meth c H locs cells slots Q (F0 m (pc + 1) ls (.int (σ 10 j) :: rest))) : W p l e R s m args below meth c H locs cells slots Q (F0 m pc ls (.int i :: .ref (ad 10) :: rest)) := by
  subst hj
  exact va_zald C.1 C.2.1 C.2.2.2.2.2 hO.1 8 1 rfl rfl hi d kk
theorem om_s10 (C : os_cx RX1 p s m args c cc nL D cI cZ) (hO : om_P D cI cZ h ad σ H) (hS : va_S (om_A h ad) H0 H locs) {i x : Int32} {j : Nat} (hj : i.toNatClampNeg = j) (hi : vp_in i 96) (hz : vp_nar .boolean x = x) (d : decode cc pc = .ok (.bastore, 1)) (kk : ∀ (H1 : Heap) (locs1 : List Loc), om_P D cI cZ h ad (os_set σ 10 j x) H1 → va_S (om_A h ad) H0 H1 locs1 → W p l e R s m args below meth c H1 locs1 cells slots Q (F0 m (pc + 1) ls rest)) : W p l e R s m args below meth c H locs cells slots Q (F0 m pc ls (.int x :: .int i :: .ref (ad 10) :: rest)) := by
  subst hj
  exact va_zast C.1 C.2.1 C.2.2.2.2.2 hO.1 hO.2 hS 8 1 rfl rfl hi d (fun H1 locs1 h1 h2 h3 => by
    rw [hz] at h1 h2
    exact kk H1 locs1 ⟨h1, h2⟩ h3)
theorem om_f11 (C : os_cx RX1 p s m args c cc nL D cI cZ) (hO : om_P D cI cZ h ad σ H) (d : decode cc pc = .ok (.getfield 35, 3)) (kk : W p l e R s m args below meth c H locs cells slots Q (F0 m (pc + 3) ls (.ref (ad 11) :: rest))) : W p l e R s m args below meth c H locs cells slots Q (F0 m pc ls (.ref h :: rest)) :=
  va_get (D := D) (ci := 1) (v := .ref (ad 11)) (C := RX1) (T := TX1) (N := 14) C.1 C.2.1 C.2.2.2.2.1 in_X1 C.2.2.2.1 C.2.2.2.2.2 hO.1 0 rfl rfl 11 (by decide) (C.2.2.2.2.1 _ q210) (fun _ h9 => h9) rfl d kk
theorem om_g11 (C : os_cx RX1 p s m args c cc nL D cI cZ) (hO : om_P D cI cZ h ad σ H) (hl : ls[0]? = some (.val (.ref h))) (d0 : decode cc pc = .ok (.aload_n 0, 1)) (d : decode cc (pc + 1) = .ok (.getfield 35, 3)) (kk : W p l e R s m args below meth c H locs cells slots Q (F0 m (pc + 4) ls (.ref (ad 11) :: rest))) : W p l e R s m args below meth c H locs cells slots Q (F0 m pc ls rest) :=
  lv_aload_n C.1 C.2.1 d0 rfl hl (om_f11 C hO d kk)
theorem om_l11 (C : os_cx RX1 p s m args c cc nL D cI cZ) (hO : om_P D cI cZ h ad σ H) {i : Int32} {j : Nat} (hj : i.toNatClampNeg = j) (hi : vp_in i 4) (d : decode cc pc = .ok (.iaload, 1)) (kk : W p l e R s m args below meth c H locs cells slots Q (F0 m (pc + 1) ls (.int (σ 11 j) :: rest))) : W p l e R s m args below meth c H locs cells slots Q (F0 m pc ls (.int i :: .ref (ad 11) :: rest)) := by
  subst hj
  exact va_iald C.1 C.2.1 C.2.2.2.2.2 hO.1 9 0 rfl rfl hi d kk
theorem om_s11 (C : os_cx RX1 p s m args c cc nL D cI cZ) (hO : om_P D cI cZ h ad σ H) (hS : va_S (om_A h ad) H0 H locs) {i x : Int32} {j : Nat} (hj : i.toNatClampNeg = j) (hi : vp_in i 4) (d : decode cc pc = .ok (.iastore, 1)) (kk : ∀ (H1 : Heap) (locs1 : List Loc), om_P D cI cZ h ad (os_set σ 11 j x) H1 → va_S (om_A h ad) H0 H1 locs1 → W p l e R s m args below meth c H1 locs1 cells slots Q (F0 m (pc + 1) ls rest)) : W p l e R s m args below meth c H locs cells slots Q (F0 m pc ls (.int x :: .int i :: .ref (ad 11) :: rest)) := by
  subst hj
  exact va_iast C.1 C.2.1 C.2.2.2.2.2 hO.1 hO.2 hS 9 0 rfl rfl hi d (fun H1 locs1 h1 h2 h3 => kk H1 locs1 ⟨h1, h2⟩ h3)
theorem om_f12 (C : os_cx RX1 p s m args c cc nL D cI cZ) (hO : om_P D cI cZ h ad σ H) (d : decode cc pc = .ok (.getfield 38, 3)) (kk : W p l e R s m args below meth c H locs cells slots Q (F0 m (pc + 3) ls (.ref (ad 12) :: rest))) : W p l e R s m args below meth c H locs cells slots Q (F0 m pc ls (.ref h :: rest)) :=
  va_get (D := D) (ci := 1) (v := .ref (ad 12)) (C := RX1) (T := TX1) (N := 14) C.1 C.2.1 C.2.2.2.2.1 in_X1 C.2.2.2.1 C.2.2.2.2.2 hO.1 0 rfl rfl 12 (by decide) (C.2.2.2.2.1 _ q211) (fun _ h9 => h9) rfl d kk
theorem om_g12 (C : os_cx RX1 p s m args c cc nL D cI cZ) (hO : om_P D cI cZ h ad σ H) (hl : ls[0]? = some (.val (.ref h))) (d0 : decode cc pc = .ok (.aload_n 0, 1)) (d : decode cc (pc + 1) = .ok (.getfield 38, 3)) (kk : W p l e R s m args below meth c H locs cells slots Q (F0 m (pc + 4) ls (.ref (ad 12) :: rest))) : W p l e R s m args below meth c H locs cells slots Q (F0 m pc ls rest) :=
  lv_aload_n C.1 C.2.1 d0 rfl hl (om_f12 C hO d kk)
theorem om_l12 (C : os_cx RX1 p s m args c cc nL D cI cZ) (hO : om_P D cI cZ h ad σ H) {i : Int32} {j : Nat} (hj : i.toNatClampNeg = j) (hi : vp_in i 4) (d : decode cc pc = .ok (.iaload, 1)) (kk : W p l e R s m args below meth c H locs cells slots Q (F0 m (pc + 1) ls (.int (σ 12 j) :: rest))) : W p l e R s m args below meth c H locs cells slots Q (F0 m pc ls (.int i :: .ref (ad 12) :: rest)) := by
  subst hj
  exact va_iald C.1 C.2.1 C.2.2.2.2.2 hO.1 10 0 rfl rfl hi d kk
theorem om_s12 (C : os_cx RX1 p s m args c cc nL D cI cZ) (hO : om_P D cI cZ h ad σ H) (hS : va_S (om_A h ad) H0 H locs) {i x : Int32} {j : Nat} (hj : i.toNatClampNeg = j) (hi : vp_in i 4) (d : decode cc pc = .ok (.iastore, 1)) (kk : ∀ (H1 : Heap) (locs1 : List Loc), om_P D cI cZ h ad (os_set σ 12 j x) H1 → va_S (om_A h ad) H0 H1 locs1 → W p l e R s m args below meth c H1 locs1 cells slots Q (F0 m (pc + 1) ls rest)) : W p l e R s m args below meth c H locs cells slots Q (F0 m pc ls (.int x :: .int i :: .ref (ad 12) :: rest)) := by
  subst hj
  exact va_iast C.1 C.2.1 C.2.2.2.2.2 hO.1 hO.2 hS 10 0 rfl rfl hi d (fun H1 locs1 h1 h2 h3 => kk H1 locs1 ⟨h1, h2⟩ h3)
theorem om_f13 (C : os_cx RX1 p s m args c cc nL D cI cZ) (hO : om_P D cI cZ h ad σ H) (d : decode cc pc = .ok (.getfield 63, 3)) (kk : W p l e R s m args below meth c H locs cells slots Q (F0 m (pc + 3) ls (.int (σ 13 0) :: rest))) : W p l e R s m args below meth c H locs cells slots Q (F0 m pc ls (.ref h :: rest)) :=
  va_get (D := D) (ci := 1) (v := .int (σ 13 0)) (C := RX1) (T := TX1) (N := 14) C.1 C.2.1 C.2.2.2.2.1 in_X1 C.2.2.2.1 C.2.2.2.2.2 hO.1 0 rfl rfl 13 (by decide) (C.2.2.2.2.1 _ q212) (fun _ h9 => h9) rfl d kk
theorem om_g13 (C : os_cx RX1 p s m args c cc nL D cI cZ) (hO : om_P D cI cZ h ad σ H) (hl : ls[0]? = some (.val (.ref h))) (d0 : decode cc pc = .ok (.aload_n 0, 1)) (d : decode cc (pc + 1) = .ok (.getfield 63, 3)) (kk : W p l e R s m args below meth c H locs cells slots Q (F0 m (pc + 4) ls (.int (σ 13 0) :: rest))) : W p l e R s m args below meth c H locs cells slots Q (F0 m pc ls rest) :=
  lv_aload_n C.1 C.2.1 d0 rfl hl (om_f13 C hO d kk)
theorem om_p13 (C : os_cx RX1 p s m args c cc nL D cI cZ) (hO : om_P D cI cZ h ad σ H) (hS : va_S (om_A h ad) H0 H locs) {x : Int32} (d : decode cc pc = .ok (.putfield 63, 3)) (kk : ∀ (H1 : Heap) (locs1 : List Loc), om_P D cI cZ h ad (os_set σ 13 0 x) H1 → va_S (om_A h ad) H0 H1 locs1 → W p l e R s m args below meth c H1 locs1 cells slots Q (F0 m (pc + 3) ls rest)) : W p l e R s m args below meth c H locs cells slots Q (F0 m pc ls (.int x :: .ref h :: rest)) :=
  va_put (D := D) (ci := 1) (v := .int x) (ty := .int) (C := RX1) (T := TX1) (N := 14) C.1 C.2.1 C.2.2.2.2.1 in_X1 tyX1 tyX1_ok nmX1 C.2.2.2.1 C.2.2.2.2.2 hO.1 hO.2 hS 0 rfl rfl 13 (by decide) (C.2.2.2.2.1 _ q212) (fun _ h9 => h9) rfl (by decide +kernel) rfl rfl (Nat.le_of_ble_eq_true rfl) d (fun H1 locs1 h1 h2 h3 => kk H1 locs1 ⟨h1, h2⟩ h3)
theorem om_ri (C : os_cx RX1 p s m args c cc nL D cI cZ) (hO : om_P D cI cZ h ad σ H) (hS : va_S (om_A h ad) s.heap H locs) {v r : Int32} {σ' : os_St} (er : v = r) (es : σ = σ') (hr : meth.sig.returnType = some .int) (hlocks : meth.locks = false) (d : decode cc pc = .ok (.ireturn, 1)) : W p l e R s m args below meth c H locs 0 0 (MQ below (va_Qi (fun r' (_ : Unit) => r' = r) (fun _ => om_W D cI cZ h ad σ') (om_A h ad)) args s 0 0 (om_A h ad)) (F0 m pc ls [.int v]) := by
  subst er
  subst es
  exact W.iret C.1 C.2.1 hr (fun t ht hW => ⟨⟨v, (), rfl, rfl, by rw [ht]; exact hO, va_K.moved hW.alike C.2.2.2.2.2⟩, hS.F ht⟩) hS.2.2 d hlocks
theorem om_rz (C : os_cx RX1 p s m args c cc nL D cI cZ) (hO : om_P D cI cZ h ad σ H) (hS : va_S (om_A h ad) s.heap H locs) {v r : Int32} {σ' : os_St} (er : v = r) (es : σ = σ') (hz : narrow .boolean (.int v) = .int v) (hr : meth.sig.returnType = some .boolean) (hlocks : meth.locks = false) (d : decode cc pc = .ok (.ireturn, 1)) : W p l e R s m args below meth c H locs 0 0 (MQ below (va_Qi (fun r' (_ : Unit) => r' = r) (fun _ => om_W D cI cZ h ad σ') (om_A h ad)) args s 0 0 (om_A h ad)) (F0 m pc ls [.int v]) := by
  subst er
  subst es
  exact W.zret C.1 C.2.1 hr hz (fun t ht hW => ⟨⟨v, (), rfl, rfl, by rw [ht]; exact hO, va_K.moved hW.alike C.2.2.2.2.2⟩, hS.F ht⟩) hS.2.2 d hlocks
theorem om_rv (C : os_cx RX1 p s m args c cc nL D cI cZ) (hO : om_P D cI cZ h ad σ H) (hS : va_S (om_A h ad) s.heap H locs) {σ' : os_St} (es : σ = σ') (hr : meth.sig.returnType = none) (hlocks : meth.locks = false) (d : decode cc pc = .ok (.return_, 1)) : W p l e R s m args below meth c H locs 0 0 (MQ below (va_Qv (fun (_ : Unit) => True) (fun _ => om_W D cI cZ h ad σ') (om_A h ad)) args s 0 0 (om_A h ad)) (F0 m pc ls []) := by
  subst es
  exact W.vret C.1 C.2.1 hr (fun t ht hW => ⟨⟨(), rfl, trivial, by rw [ht]; exact hO, va_K.moved hW.alike C.2.2.2.2.2⟩, hS.F ht⟩) hS.2.2 d hlocks
theorem om_ci0 {y : MethodName} {bytes : ByteArray} {maxL n index : Nat} {rt : FieldType} {rm : Room} {As : List Value} {σ' : os_St} {own : String} {st0 : List Value} {A0 : Nat → Prop} {r : Int32} (C : os_cx own p s m args c cc nL D cI cZ) (hM : os_MI l y bytes maxL rt rm (om_A h ad) (.ref h :: As) (om_W D cI cZ h ad σ) (om_W D cI cZ h ad σ') r) (cw : CallW R s args own RX1 index y bytes maxL (some rt) (ws_ y bytes maxL (some rt)) rm 0 0 n) (hO : om_P D cI cZ h ad σ H) (hS : va_S A0 H0 H locs) (hA : ∀ q, om_A h ad q → A0 q) (hst : st0 = As.reverse ++ .ref h :: rest) (hn : As.length = n) (hsz : ls.size = nL) (hroom : (rest.map fun v => v.category).sum ≤ 8) (d : decode cc pc = .ok (.invokevirtual index, 3)) (hc : cells ≤ R.cells ∧ slots ≤ R.slots) (kk : ∀ (H1 : Heap) (locs1 : List Loc), om_P D cI cZ h ad σ' H1 → va_S A0 H0 H1 locs1 → (∀ q : Nat, q < H.size → ¬ om_A h ad q → H1[q]? = H[q]?) → W p l e R s m args below meth c H1 locs1 cells slots Q (F0 m (pc + 3) ls (.int r :: rest))) : W p l e R s m args below meth c H locs cells slots Q (F0 m pc ls st0) := by
  subst hst
  refine va_calli (va_runV (As := As) (rest := rest) ⟨C.1, C.2.1, C.2.2.1, C.2.2.2.1, C.2.2.2.2.1⟩ hM cw ⟨om_blind, va_recv C.2.2.2.2.2 hO.1 (ci := 1) (q0 := 0) rfl rfl, fun U hU hW => ⟨rfl, by rw [hU]; exact hO, va_K.moved hW.alike C.2.2.2.2.2⟩⟩ rfl hn hsz rfl (lv_room hroom) d ⟨hc.1, hc.2⟩) hS (fun q _ h => hA q h) hA ?_
  intro r1 u t H1 locs1 ht hvm hp hB hz hk hS1
  subst hp
  exact kk H1 locs1 (by rw [← ht]; exact hB.1) hS1 hk
theorem om_cv0 {y : MethodName} {bytes : ByteArray} {maxL n index : Nat} {rm : Room} {As : List Value} {σ' : os_St} {own : String} {st0 : List Value} {A0 : Nat → Prop} (C : os_cx own p s m args c cc nL D cI cZ) (hM : os_MV l y bytes maxL rm (om_A h ad) (.ref h :: As) (om_W D cI cZ h ad σ) (om_W D cI cZ h ad σ')) (cw : CallW R s args own RX1 index y bytes maxL none (ws_ y bytes maxL none) rm 0 0 n) (hO : om_P D cI cZ h ad σ H) (hS : va_S A0 H0 H locs) (hA : ∀ q, om_A h ad q → A0 q) (hst : st0 = As.reverse ++ .ref h :: rest) (hn : As.length = n) (hsz : ls.size = nL) (hroom : (rest.map fun v => v.category).sum ≤ 8) (d : decode cc pc = .ok (.invokevirtual index, 3)) (hc : cells ≤ R.cells ∧ slots ≤ R.slots) (kk : ∀ (H1 : Heap) (locs1 : List Loc), om_P D cI cZ h ad σ' H1 → va_S A0 H0 H1 locs1 → (∀ q : Nat, q < H.size → ¬ om_A h ad q → H1[q]? = H[q]?) → W p l e R s m args below meth c H1 locs1 cells slots Q (F0 m (pc + 3) ls rest)) : W p l e R s m args below meth c H locs cells slots Q (F0 m pc ls st0) := by
  subst hst
  refine va_callv (va_runV (As := As) (rest := rest) ⟨C.1, C.2.1, C.2.2.1, C.2.2.2.1, C.2.2.2.2.1⟩ hM cw ⟨om_blind, va_recv C.2.2.2.2.2 hO.1 (ci := 1) (q0 := 0) rfl rfl, fun U hU hW => ⟨rfl, by rw [hU]; exact hO, va_K.moved hW.alike C.2.2.2.2.2⟩⟩ rfl hn hsz rfl (lv_room hroom) d ⟨hc.1, hc.2⟩) hS (fun q _ h => hA q h) hA ?_
  intro u t H1 locs1 ht hvm hp hB hz hk hS1
  exact kk H1 locs1 (by rw [← ht]; exact hB.1) hS1 hk
theorem om_ci {y : MethodName} {bytes : ByteArray} {maxL n index : Nat} {rt : FieldType} {rm : Room} {As : List Value} {σ' : os_St} {st0 : List Value} {r : Int32} (C : os_cx RX1 p s m args c cc nL D cI cZ) (hM : os_MI l y bytes maxL rt rm (om_A h ad) (.ref h :: As) (om_W D cI cZ h ad σ) (om_W D cI cZ h ad σ') r) (cw : CallW R s args RX1 RX1 index y bytes maxL (some rt) (ws_ y bytes maxL (some rt)) rm 0 0 n) (hO : om_P D cI cZ h ad σ H) (hS : va_S (om_A h ad) H0 H locs) (hst : st0 = As.reverse ++ .ref h :: rest) (hn : As.length = n) (hsz : ls.size = nL) (hroom : (rest.map fun v => v.category).sum ≤ 8) (d : decode cc pc = .ok (.invokevirtual index, 3)) (hc : cells ≤ R.cells ∧ slots ≤ R.slots) (kk : ∀ (H1 : Heap) (locs1 : List Loc), om_P D cI cZ h ad σ' H1 → va_S (om_A h ad) H0 H1 locs1 → W p l e R s m args below meth c H1 locs1 cells slots Q (F0 m (pc + 3) ls (.int r :: rest))) : W p l e R s m args below meth c H locs cells slots Q (F0 m pc ls st0) :=
  om_ci0 C hM cw hO hS (fun _ h => h) hst hn hsz hroom d hc (fun H1 locs1 h1 h2 _ => kk H1 locs1 h1 h2)
theorem om_cv {y : MethodName} {bytes : ByteArray} {maxL n index : Nat} {rm : Room} {As : List Value} {σ' : os_St} {st0 : List Value} (C : os_cx RX1 p s m args c cc nL D cI cZ) (hM : os_MV l y bytes maxL rm (om_A h ad) (.ref h :: As) (om_W D cI cZ h ad σ) (om_W D cI cZ h ad σ')) (cw : CallW R s args RX1 RX1 index y bytes maxL none (ws_ y bytes maxL none) rm 0 0 n) (hO : om_P D cI cZ h ad σ H) (hS : va_S (om_A h ad) H0 H locs) (hst : st0 = As.reverse ++ .ref h :: rest) (hn : As.length = n) (hsz : ls.size = nL) (hroom : (rest.map fun v => v.category).sum ≤ 8) (d : decode cc pc = .ok (.invokevirtual index, 3)) (hc : cells ≤ R.cells ∧ slots ≤ R.slots) (kk : ∀ (H1 : Heap) (locs1 : List Loc), om_P D cI cZ h ad σ' H1 → va_S (om_A h ad) H0 H1 locs1 → W p l e R s m args below meth c H1 locs1 cells slots Q (F0 m (pc + 3) ls rest)) : W p l e R s m args below meth c H locs cells slots Q (F0 m pc ls st0) :=
  om_cv0 C hM cw hO hS (fun _ h => h) hst hn hsz hroom d hc (fun H1 locs1 h1 h2 _ => kk H1 locs1 h1 h2)
end OM
theorem om_ei {l : Launch} {y : MethodName} {cc : ByteArray} {L : Nat} {rt : FieldType} {r : Int32} {rm : Room} {h : Nat} {ad : Nat → Nat} {av : List Value} {D : va_G} {cI cZ : ClassId} {σ σ' : os_St} (hy : plainName y.cls = true) (ho : y.cls = RX1) (hL : (lg_sl av).length ≤ L)
    (body : ∀ (p : Program) (e : Env) (s : State) (m : MethodId) (below : List Frame) (meth : Method) (c : Code), os_cx RX1 p s m av.toArray c cc L D cI cZ → meth.sig.returnType = (some rt) → meth.locks = false → om_P D cI cZ h ad σ s.heap → va_S (om_A h ad) s.heap s.heap [] → ∀ ls : Array Slot, lv_has ls L (lv_args 0 av) → W p l e rm s m av.toArray below meth c s.heap [] 0 0 (MQ below (va_Qi (fun r' (_ : Unit) => r' = r) (fun _ => om_W D cI cZ h ad σ') (om_A h ad)) av.toArray s 0 0 (om_A h ad)) (F0 m 0 ls [])) : os_MI l y cc L rt rm (om_A h ad) av (om_W D cI cZ h ad σ) (om_W D cI cZ h ad σ') r := by
  refine Met.ofW (cc := cc) (maxL := L) (ret := (some rt)) hy rfl ?_
  intro p e s m args below meth c s₁ B hml hv
  obtain ⟨rfl, hO, hK⟩ := hv
  have hts := atoms_spec (ws := ws_ y cc L (some rt)) B.pre
  have hts : ∀ w ∈ lw_all, w.before _ s = true := fun w h => hts w (List.mem_cons_of_mem _ h)
  have hown : s.vm.findClass RX1 = some m.cls := by rw [← ho]; exact findClass_of_methodNamed B.named
  have hl := lv_entry av (n := L) hL
  rw [lg_entry_eq]
  exact body p e s m below meth c ⟨B.exec, B.bytes, hml, hown, hts, hK⟩ B.returns B.notSynchronized hO va_S.rf _ hl
theorem om_ev {l : Launch} {y : MethodName} {cc : ByteArray} {L : Nat} {rm : Room} {h : Nat} {ad : Nat → Nat} {av : List Value} {D : va_G} {cI cZ : ClassId} {σ σ' : os_St} (hy : plainName y.cls = true) (ho : y.cls = RX1) (hL : (lg_sl av).length ≤ L)
    (body : ∀ (p : Program) (e : Env) (s : State) (m : MethodId) (below : List Frame) (meth : Method) (c : Code), os_cx RX1 p s m av.toArray c cc L D cI cZ → meth.sig.returnType = none → meth.locks = false → om_P D cI cZ h ad σ s.heap → va_S (om_A h ad) s.heap s.heap [] → ∀ ls : Array Slot, lv_has ls L (lv_args 0 av) → W p l e rm s m av.toArray below meth c s.heap [] 0 0 (MQ below (va_Qv (fun (_ : Unit) => True) (fun _ => om_W D cI cZ h ad σ') (om_A h ad)) av.toArray s 0 0 (om_A h ad)) (F0 m 0 ls [])) : os_MV l y cc L rm (om_A h ad) av (om_W D cI cZ h ad σ) (om_W D cI cZ h ad σ') := by
  refine Met.ofW (cc := cc) (maxL := L) (ret := none) hy rfl ?_
  intro p e s m args below meth c s₁ B hml hv
  obtain ⟨rfl, hO, hK⟩ := hv
  have hts := atoms_spec (ws := ws_ y cc L none) B.pre
  have hts : ∀ w ∈ lw_all, w.before _ s = true := fun w h => hts w (List.mem_cons_of_mem _ h)
  have hown : s.vm.findClass RX1 = some m.cls := by rw [← ho]; exact findClass_of_methodNamed B.named
  have hl := lv_entry av (n := L) hL
  rw [lg_entry_eq]
  exact body p e s m below meth c ⟨B.exec, B.bytes, hml, hown, hts, hK⟩ B.returns B.notSynchronized hO va_S.rf _ hl
end
section
/-! helpers: the best place, counting, the bounds of the table (os_bd) and what keeps them -/
theorem os_set_s (σ : os_St) (k i : Nat) (v : Int32) : os_set σ k i v k i = v := by simp [os_set, upd]
theorem os_set_i {σ : os_St} {k i j : Nat} {v : Int32} (h : j ≠ i) : os_set σ k i v k j = σ k j := by simp [os_set, upd, h]
theorem os_set_k {σ : os_St} {k k' i : Nat} {v : Int32} (h : k' ≠ k) : os_set σ k i v k' = σ k' := by simp [os_set, h]
theorem os_set_if (σ : os_St) (k i j : Nat) (v : Int32) : os_set σ k i v k j = if j = i then v else σ k j := by
  by_cases h : j = i
  · subst h; simp [os_set, upd]
  · simp [os_set, upd, h]
theorem os_best_lt {ok : Nat → Bool} {lt : Nat → Nat → Bool} : ∀ {n b : Nat}, os_best ok lt n = some b → b < n
  | 0, b, h => by rw [os_best] at h; cases h
  | n + 1, b, h => by
    rw [os_best] at h
    cases hb : os_best ok lt n with
    | none =>
      rw [hb, os_pick1] at h
      split at h
      · cases h; omega
      · cases h
    | some b0 =>
      have := os_best_lt hb
      rw [hb, os_pick1] at h
      split at h
      · cases h; omega
      · cases h; omega
theorem os_best_k0 {ok : Nat → Bool} {lt : Nat → Nat → Bool} {n : Nat} (h : ok n = false) : os_best ok lt (n + 1) = os_best ok lt n := by
  rw [os_best]
  cases hb : os_best ok lt n <;> simp [os_pick1, h]
theorem os_best_k1 {ok : Nat → Bool} {lt : Nat → Nat → Bool} {n b : Nat} (hb : os_best ok lt n = some b) (h : lt n b = false) : os_best ok lt (n + 1) = some b := by
  rw [os_best, hb]; simp [os_pick1, h]
theorem os_best_t0 {ok : Nat → Bool} {lt : Nat → Nat → Bool} {n : Nat} (hb : os_best ok lt n = none) (h : ok n = true) : os_best ok lt (n + 1) = some n := by
  rw [os_best, hb]; simp [os_pick1, h]
theorem os_best_t1 {ok : Nat → Bool} {lt : Nat → Nat → Bool} {n b : Nat} (hb : os_best ok lt n = some b) (h : ok n = true) (h2 : lt n b = true) : os_best ok lt (n + 1) = some n := by
  rw [os_best, hb]; simp [os_pick1, h, h2]
theorem os_best_0 {ok : Nat → Bool} {lt : Nat → Nat → Bool} : os_best ok lt 0 = none := by rw [os_best]
theorem os_bit_eq {b : Bool} : (os_bit b = 0) ↔ b = false := by cases b <;> simp [os_bit]
theorem os_bit_t {b : Bool} (h : ¬ os_bit b = 0) : b = true := by cases b <;> simp_all [os_bit]
theorem os_bit_f {b : Bool} (h : os_bit b = 0) : b = false := os_bit_eq.mp h
theorem os_bit_nar (b : Bool) : narrow .boolean (.int (os_bit b)) = .int (os_bit b) := by cases b <;> rfl
theorem os_nneg {n : Nat} (h : n < 2 ^ 31) : ¬ nI n < 0 := nI_pos h
theorem os_m1neg : (-1 : Int32) < 0 := by decide
theorem os_vp {x : Int32} {n : Nat} (h : vp_in x n) : ¬ x < 0 := fun q => h (Or.inl q)
theorem os_vpn {x : Int32} {n : Nat} (h : vp_in x n) : os_ix x < n := Nat.not_le.mp (fun q => h (Or.inr q))
theorem os_vpe {x : Int32} {n : Nat} (h : vp_in x n) (hn : n < 2 ^ 31) : x = nI (os_ix x) := by
  obtain ⟨j, h1, rfl⟩ := vp_in_of h hn
  rw [os_ix, nI_clamp (by omega)]
-- ===== counting =====
def os_num (f : Nat → Bool) : Nat → Nat
  | 0 => 0
  | n + 1 => os_num f n + (if f n = true then 1 else 0)
theorem os_num_congr {f g : Nat → Bool} : ∀ {n : Nat}, (∀ i, i < n → f i = g i) → os_num f n = os_num g n
  | 0, _ => rfl
  | n + 1, h => by
    unfold os_num
    rw [os_num_congr (fun i hi => h i (by omega)), h n (by omega)]
theorem os_num_le {f : Nat → Bool} : ∀ (n : Nat), os_num f n ≤ n
  | 0 => Nat.le_refl _
  | n + 1 => by
    have := os_num_le (f := f) n
    unfold os_num
    split <;> omega
theorem os_num_mono {f g : Nat → Bool} : ∀ {n : Nat}, (∀ i, i < n → f i = true → g i = true) → os_num f n ≤ os_num g n
  | 0, _ => Nat.le_refl _
  | n + 1, h => by
    have h1 := os_num_mono (n := n) (fun i hi => h i (by omega))
    have h2 := h n (by omega)
    unfold os_num
    by_cases hf : f n = true
    · rw [if_pos hf, if_pos (h2 hf)]; omega
    · rw [if_neg hf]; split <;> omega
/-- one place changes -/
theorem os_num_upd {f g : Nat → Bool} {i : Nat} : ∀ {n : Nat}, i < n → (∀ j, j < n → j ≠ i → f j = g j) → os_num f n + (if g i = true then 1 else 0) = os_num g n + (if f i = true then 1 else 0)
  | 0, h, _ => by omega
  | n + 1, h, hj => by
    by_cases e : i = n
    · subst e
      have := os_num_congr (f := f) (g := g) (n := i) (fun j hj2 => hj j (by omega) (by omega))
      unfold os_num
      omega
    · have h1 := os_num_upd (f := f) (g := g) (i := i) (n := n) (by omega) (fun j hj2 hne => hj j (by omega) hne)
      have h2 := hj n (by omega) (fun q => e q.symm)
      unfold os_num
      rw [h2]
      omega
theorem os_num_pos {f : Nat → Bool} {i : Nat} : ∀ {n : Nat}, i < n → f i = true → 0 < os_num f n
  | 0, h, _ => by omega
  | n + 1, h, hf => by
    unfold os_num
    by_cases e : i = n
    · subst e; rw [if_pos hf]; omega
    · have := os_num_pos (f := f) (i := i) (n := n) (by omega) hf
      omega
theorem os_num_zero {f : Nat → Bool} : ∀ {n : Nat}, (∀ i, i < n → f i = false) → os_num f n = 0
  | 0, _ => rfl
  | n + 1, h => by
    unfold os_num
    rw [os_num_zero (fun i hi => h i (by omega)), h n (by omega)]
    rfl
-- ===== the bounds of OptimisticSim's table =====
def os_cs (σ : os_St) : Nat := os_num (fun e => decide (¬ σ 12 e < 0)) 96
def os_bd (N : Nat) (σ : os_St) : Prop := N ≤ 96 ∧ (∀ e, e < 96 → vp_in (σ 7 e) 4) ∧ (∀ e, e < 96 → ¬ σ 12 e < 0 → vp_in (σ 12 e) 96) ∧ (∀ j, j < 96 → vp_in (σ 17 j) 96) ∧ (∀ p, p < 4 → vp_in (σ 0 p) 4) ∧ ∃ r : Nat, σ 18 0 = nI r ∧ r + os_cs σ ≤ N
theorem os_cs_eq {σ τ : os_St} (h : ∀ e, e < 96 → σ 12 e = τ 12 e) : os_cs σ = os_cs τ := os_num_congr (fun e he => by rw [h e he])
theorem bd_of {N : Nat} {σ τ : os_St} (h : os_bd N σ) (h7 : ∀ e, e < 96 → τ 7 e = σ 7 e) (h12 : τ 12 = σ 12) (h17 : τ 17 = σ 17) (h0 : τ 0 = σ 0) (h18 : τ 18 = σ 18) : os_bd N τ := by
  obtain ⟨a, b, c, d, e, r, f, g⟩ := h
  refine ⟨a, fun x hx => by rw [h7 x hx]; exact b x hx, by rw [h12]; exact c, by rw [h17]; exact d, by rw [h0]; exact e, r, by rw [h18]; exact f, ?_⟩
  rw [os_cs_eq (σ := τ) (τ := σ) (fun e _ => by rw [h12])]
  exact g
theorem bd_room {N : Nat} {σ : os_St} {e : Nat} (h : os_bd N σ) (he : e < 96) (h12 : ¬ σ 12 e < 0) : vp_in (σ 18 0) 96 := by
  obtain ⟨a, -, -, -, -, r, f, g⟩ := h
  have : 0 < os_cs σ := os_num_pos he (by simpa using h12)
  rw [f]
  exact vp_in_nI (by omega) (by omega)
theorem bd_undo1 {N : Nat} {σ : os_St} (h : os_bd N σ) (e : Nat) : os_bd N (os_undo1 σ e) := by
  refine bd_of h ?_ ?_ ?_ ?_ ?_ <;> simp [os_undo1, os_set_k]
theorem bd_push {N : Nat} {σ : os_St} {e : Nat} (h : os_bd N σ) (he : e < 96) (h12 : ¬ σ 12 e < 0) : os_bd N (os_push σ e) := by
  have hr := bd_room h he h12
  obtain ⟨a, b, c, d, g, r, f, k⟩ := h
  have hs := c e he h12
  have hpos : 0 < os_cs σ := os_num_pos he (by simpa using h12)
  refine ⟨a, fun x hx => ?_, fun x hx => ?_, fun x hx => ?_, fun x hx => ?_, r + 1, ?_, ?_⟩
  · simp only [os_push, os_set_k (show (7 : Nat) ≠ 12 by decide), os_set_k (show (7 : Nat) ≠ 18 by decide), os_set_k (show (7 : Nat) ≠ 17 by decide)]
    exact b x hx
  · intro hx2
    by_cases q : x = e
    · subst q
      exact absurd (by simp only [os_push, os_set_s]; decide) hx2
    · simp only [os_push, os_set_i q, os_set_k (show (12 : Nat) ≠ 18 by decide), os_set_k (show (12 : Nat) ≠ 17 by decide)] at hx2 ⊢
      exact c x hx hx2
  · simp only [os_push, os_set_k (show (17 : Nat) ≠ 12 by decide), os_set_k (show (17 : Nat) ≠ 18 by decide), os_set_if]
    split
    · exact hs
    · exact d x hx
  · simp only [os_push, os_set_k (show (0 : Nat) ≠ 12 by decide), os_set_k (show (0 : Nat) ≠ 18 by decide), os_set_k (show (0 : Nat) ≠ 17 by decide)]
    exact g x hx
  · simp only [os_push, os_set_k (show (18 : Nat) ≠ 12 by decide), os_set_s]
    rw [f, nI_1]
  · have hu := os_num_upd (f := fun x => decide (¬ σ 12 x < 0)) (g := fun x => decide (¬ (os_push σ e) 12 x < 0)) (i := e) (n := 96) he (fun j hj hne => by
      simp only [os_push, os_set_i hne, os_set_k (show (12 : Nat) ≠ 18 by decide), os_set_k (show (12 : Nat) ≠ 17 by decide)])
    have e1 : (decide (¬ (os_push σ e) 12 e < 0)) = false := by simp only [os_push, os_set_s]; decide
    have e2 : (decide (¬ σ 12 e < 0)) = true := by simpa using h12
    simp only [e1, e2] at hu
    have : os_cs (os_push σ e) + 1 = os_cs σ := by unfold os_cs; simpa using hu.symm
    omega
theorem bd_undo {N : Nat} {σ : os_St} {e : Nat} (h : os_bd N σ) (he : e < 96) : os_bd N (os_undo σ e) := by
  unfold os_undo
  split
  · exact bd_undo1 h e
  · rename_i q
    exact bd_push (bd_undo1 h e) he q
theorem os_undo_12 (σ : os_St) (e : Nat) : (os_undo1 σ e) 12 = σ 12 := by simp [os_undo1, os_set_k]
theorem os_undo_18 (σ : os_St) (e : Nat) : (os_undo1 σ e) 18 = σ 18 := by simp [os_undo1, os_set_k]
theorem os_undo_7 (σ : os_St) (e : Nat) : (os_undo σ e) 7 = σ 7 := by
  unfold os_undo
  split <;> simp [os_undo1, os_push, os_set_k]
theorem bd_goF {N : Nat} {p : Int32} {e : Nat} : ∀ (n : Nat) (σ : os_St) (o : Option Nat), os_bd N σ → (∀ b, o = some b → b < 96) → os_bd N (os_goF p e n σ o)
  | 0, σ, o, h, _ => h
  | n + 1, σ, none, h, _ => h
  | n + 1, σ, some b, h, ho => by
    unfold os_goF
    split
    · exact bd_goF n _ _ (bd_undo h (ho b rfl)) (fun b hb => os_best_lt hb)
    · exact h
theorem bd_goBack {N : Nat} {σ : os_St} {e : Nat} (h : os_bd N σ) : os_bd N (os_goBack σ e) := bd_goF 96 σ _ h (fun _ hb => os_best_lt hb)
theorem bd_pop {N : Nat} {σ : os_St} (h : os_bd N σ) (h0 : 0 < σ 18 0) : ∃ N', N = N' + 1 ∧ os_bd N' (os_pop σ) ∧ vp_in ((os_pop σ) 18 0) 96 ∧ vp_in ((os_pop σ) 17 (os_ix ((os_pop σ) 18 0))) 96 := by
  obtain ⟨a, b, c, d, g, r, f, k⟩ := h
  cases r with
  | zero => rw [f, nI_0] at h0; exact absurd h0 (by decide)
  | succ r =>
    have e1 : (os_pop σ) 18 0 = nI r := by simp only [os_pop, os_set_s]; rw [f, nI_pred]
    have e2 : (os_pop σ) 17 = σ 17 := by simp [os_pop, os_set_k]
    refine ⟨N - 1, by omega, ⟨by omega, fun x hx => ?_, fun x hx => ?_, fun x hx => ?_, fun x hx => ?_, r, e1, ?_⟩, ?_, ?_⟩
    · simpa [os_pop, os_set_k] using b x hx
    · simpa [os_pop, os_set_k] using c x hx
    · simpa [os_pop, os_set_k] using d x hx
    · simpa [os_pop, os_set_k] using g x hx
    · rw [os_cs_eq (σ := os_pop σ) (τ := σ) (fun e _ => by simp [os_pop, os_set_k])]; omega
    · rw [e1]; exact vp_in_nI (by omega) (by omega)
    · rw [e1, e2, os_ix, nI_clamp (by omega)]; exact d r (by omega)
theorem bd_set5 {N : Nat} {σ : os_St} (h : os_bd N σ) (e : Nat) (v : Int32) : os_bd N (os_set σ 5 e v) := by
  refine bd_of h ?_ ?_ ?_ ?_ ?_ <;> simp [os_set_k]
theorem bd_up {N N' : Nat} {σ : os_St} (h : os_bd N σ) (hN : N ≤ N') (h2 : N' ≤ 96) : os_bd N' σ := by
  obtain ⟨a, b, c, d, g, r, f, k⟩ := h
  exact ⟨h2, b, c, d, g, r, f, by omega⟩
theorem bd_cb1 {N : Nat} {σ : os_St} (h : os_bd N (os_pop σ)) : os_bd N (os_cb1 σ) := by
  unfold os_cb1
  split
  · exact h
  · exact bd_goBack h
theorem bd_cbF : ∀ (n N : Nat) (σ : os_St), os_bd N σ → N < n → os_bd N (os_cbF n σ) ∧ (os_cbF n σ) 18 0 = 0
  | 0, N, σ, _, h => by omega
  | n + 1, N, σ, h, hn => by
    unfold os_cbF
    split
    · rename_i h0
      obtain ⟨N', rfl, h2, -, -⟩ := bd_pop h h0
      have := bd_cbF n N' _ (bd_set5 (bd_cb1 h2) (os_top σ) 0) (by omega)
      exact ⟨bd_up this.1 (by omega) h.1, this.2⟩
    · rename_i h0
      refine ⟨h, ?_⟩
      obtain ⟨a, -, -, -, -, r, f, k⟩ := h
      rw [f] at h0 ⊢
      cases r with
      | zero => rfl
      | succ r => exact absurd (by rw [← nI_0]; exact nI_lt (by omega) (by omega)) h0
theorem bd_callBack {σ : os_St} (h : os_bd 96 σ) : os_bd 96 (os_callBack σ) ∧ (os_callBack σ) 18 0 = 0 := bd_cbF 97 96 σ h (by omega)
theorem bd_arrive {σ : os_St} {e : Nat} (h : os_bd 96 σ) : os_bd 96 (os_arrive σ e) ∧ (os_arrive σ e) 18 0 = 0 := bd_callBack (bd_goBack h)
theorem bd_0 {N : Nat} {σ : os_St} (h : os_bd N σ) (h0 : σ 18 0 = 0) : os_bd 96 σ := by
  obtain ⟨a, b, c, d, g, r, f, k⟩ := h
  exact ⟨Nat.le_refl _, b, c, d, g, 0, by rw [h0, nI_0], by have := os_num_le (f := fun e => decide (¬ σ 12 e < 0)) 96; unfold os_cs; omega⟩
theorem os_free_lt (σ : os_St) : ∀ (n e : Nat), os_freeF σ n e ≤ e + n
  | 0, e => Nat.le_refl _
  | n + 1, e => by
    unfold os_freeF
    split
    · omega
    · have := os_free_lt σ n (e + 1); omega
theorem os_free_96 (σ : os_St) : os_free σ < 96 := by
  have := os_free_lt σ 95 0
  unfold os_free
  omega
theorem bd_new {σ : os_St} (h : os_bd 96 σ) (h0 : σ 18 0 = 0) {e : Nat} {p t v l : Int32} (hp : vp_in p 4) : os_bd 96 (os_newAt σ e p t v l) ∧ (os_newAt σ e p t v l) 18 0 = 0 := by
  obtain ⟨a, b, c, d, g, r, f, k⟩ := h
  have e18 : (os_newAt σ e p t v l) 18 0 = 0 := by simp [os_newAt, os_set_k, h0]
  refine ⟨⟨Nat.le_refl _, fun x hx => ?_, fun x hx => ?_, fun x hx => ?_, fun x hx => ?_, 0, by rw [e18, nI_0], by have := os_num_le (f := fun y => decide (¬ (os_newAt σ e p t v l) 12 y < 0)) 96; unfold os_cs; omega⟩, e18⟩
  · have : (os_newAt σ e p t v l) 7 x = if x = e then p else σ 7 x := by simp [os_newAt, os_set_k, os_set_if]
    rw [this]
    split
    · exact hp
    · exact b x hx
  · have : (os_newAt σ e p t v l) 12 x = if x = e then -1 else σ 12 x := by simp [os_newAt, os_set_k, os_set_if]
    rw [this]
    split
    · intro q; exact absurd (by decide) q
    · exact c x hx
  · simpa [os_newAt, os_set_k] using d x hx
  · simpa [os_newAt, os_set_k] using g x hx
theorem bd_sent {σ : os_St} (h : os_bd 96 σ) (h0 : σ 18 0 = 0) {e c : Nat} (hc : c < 96) : os_bd 96 (os_set σ 12 e (nI c)) ∧ (os_set σ 12 e (nI c)) 18 0 = 0 := by
  obtain ⟨a, b, c0, d, g, r, f, k⟩ := h
  have e18 : (os_set σ 12 e (nI c)) 18 0 = 0 := by simp [os_set_k, h0]
  refine ⟨⟨Nat.le_refl _, fun x hx => ?_, fun x hx => ?_, fun x hx => ?_, fun x hx => ?_, 0, by rw [e18, nI_0], by have := os_num_le (f := fun y => decide (¬ (os_set σ 12 e (nI c)) 12 y < 0)) 96; unfold os_cs; omega⟩, e18⟩
  · simpa [os_set_k] using b x hx
  · rw [os_set_if]
    split
    · intro _; exact vp_in_nI hc (by omega)
    · exact c0 x hx
  · simpa [os_set_k] using d x hx
  · simpa [os_set_k] using g x hx
theorem os_hd3_k {σ : os_St} {e p k : Nat} (h1 : k ≠ 10) (h2 : k ≠ 11) (h3 : k ≠ 13) : (os_hd3 σ e p) k = σ k := by
  simp only [os_hd3, os_hd2, os_hd1, os_set_k h1, os_set_k h2, os_set_k h3]
theorem bd_hd3 {N : Nat} {σ : os_St} (h : os_bd N σ) (e p : Nat) : os_bd N (os_hd3 σ e p) := by
  refine bd_of h ?_ ?_ ?_ ?_ ?_
  · intro x _; rw [os_hd3_k] <;> decide
  all_goals (rw [os_hd3_k] <;> decide)
theorem bd_handle {σ : os_St} (h : os_bd 96 σ) (h0 : σ 18 0 = 0) {e : Nat} (he : e < 96) : os_bd 96 (os_handle σ e) ∧ (os_handle σ e) 18 0 = 0 := by
  have hp := os_vpn (h.2.1 e he)
  have h3 := bd_hd3 h e (os_ix (σ 7 e))
  have e18 : (os_hd3 σ e (os_ix (σ 7 e))) 18 0 = 0 := by rw [os_hd3_k (by decide) (by decide) (by decide)]; exact h0
  unfold os_handle
  split
  · have hn := bd_new h3 e18 (e := os_free (os_hd3 σ e (os_ix (σ 7 e)))) (p := (os_hd3 σ e (os_ix (σ 7 e))) 0 (os_ix (σ 7 e))) (t := (os_hd3 σ e (os_ix (σ 7 e))) 6 e + (os_hd3 σ e (os_ix (σ 7 e))) 1 (os_ix (σ 7 e))) (v := ((os_hd3 σ e (os_ix (σ 7 e))) 13 (os_ix (σ 7 e)) >>> ((2 : Int32) &&& 31)) &&& 15) (l := (os_hd3 σ e (os_ix (σ 7 e))) 9 e - 1) (h3.2.2.2.2.1 _ hp)
    exact bd_arrive (bd_sent hn.1 hn.2 (os_free_96 _)).1
  · exact ⟨h3, e18⟩
end
section
/-! walks of OptimisticSim (printed by gen/walk.py) -/
set_option maxRecDepth 100000
set_option maxHeartbeats 4000000 in
theorem mx_badP (l : Launch) (D : va_G) (cI cZ : ClassId) (h : Nat) (ad : Nat → Nat) (σ : os_St) (x : Int32) : os_MI l yX0_badProcess cX0_badProcess 1 .boolean (os_rm 0 0) (ox_A h ad) [.int x] (ox_W D cI cZ h ad σ) (ox_W D cI cZ h ad σ) (os_bit (os_badP x)) := by
  refine ox_ei (by decide) rfl (Nat.le_of_ble_eq_true rfl) ?_
  intro pg e s m below meth c C hr hlk hO hS ls hl
  have hl : lv_has ls 1 [(0, .int x)] := hl
  refine lv_iload_n C.1 C.2.1 dX0_badProcess_0 rfl (lv_at hl 0 rfl) ?_
  refine lv_if_lt (tgt := 9) C.1 C.2.1 dX0_badProcess_1 (by decide) (fun c1 => ?_) (fun c1 => ?_)
  · refine lv_iconst (v := 1) C.1 C.2.1 dX0_badProcess_9 (by decide) ?_
    refine lv_goto (tgt := 14) C.1 C.2.1 dX0_badProcess_10 (by decide) ?_
    exact ox_rz C hO hS (by simp [os_badP, os_bit, ← Int32.not_lt, c1]) rfl rfl hr hlk dX0_badProcess_14
  · refine lv_iload_n C.1 C.2.1 dX0_badProcess_4 rfl (lv_at hl 0 rfl) ?_
    refine lv_iconst (v := 4) C.1 C.2.1 dX0_badProcess_5 (by decide) ?_
    refine lv_icmp_lt (tgt := 13) C.1 C.2.1 dX0_badProcess_6 (by decide) (fun c6 => ?_) (fun c6 => ?_)
    · refine lv_iconst (v := 0) C.1 C.2.1 dX0_badProcess_13 (by decide) ?_
      exact ox_rz C hO hS (by simp [os_badP, os_bit, ← Int32.not_lt, c1, c6]) rfl rfl hr hlk dX0_badProcess_14
    · refine lv_iconst (v := 1) C.1 C.2.1 dX0_badProcess_9 (by decide) ?_
      refine lv_goto (tgt := 14) C.1 C.2.1 dX0_badProcess_10 (by decide) ?_
      exact ox_rz C hO hS (by simp [os_badP, os_bit, ← Int32.not_lt, c1, c6]) rfl rfl hr hlk dX0_badProcess_14
set_option maxHeartbeats 4000000 in
theorem mx_sooner (l : Launch) (D : va_G) (cI cZ : ClassId) (h : Nat) (ad : Nat → Nat) (σ : os_St) (a b : Nat) (ha : a < 96) (hb : b < 96) : os_MI l yX0_sooner cX0_sooner 3 .boolean (os_rm 0 0) (ox_A h ad) [.ref h, .int (nI a), .int (nI b)] (ox_W D cI cZ h ad σ) (ox_W D cI cZ h ad σ) (os_bit (os_soon σ a b)) := by
  refine ox_ei (by decide) rfl (Nat.le_of_ble_eq_true rfl) ?_
  intro pg e s m below meth c C hr hlk hO hS ls hl
  have hl : lv_has ls 3 [(0, .ref h), (1, .int (nI a)), (2, .int (nI b))] := hl
  have hab : (nI a < nI b) ↔ a < b := nI_ltI (by omega) (by omega)
  refine ox_g6 C hO (lv_at hl 0 rfl) dX0_sooner_0 dX0_sooner_1 ?_
  refine lv_iload_n C.1 C.2.1 dX0_sooner_4 rfl (lv_at hl 1 rfl) ?_
  refine ox_l6 (j := a) C hO (nI_clamp (by omega)) (vp_in_nI (by omega) (by omega)) dX0_sooner_5 ?_
  refine ox_g6 C hO (lv_at hl 0 rfl) dX0_sooner_6 dX0_sooner_7 ?_
  refine lv_iload_n C.1 C.2.1 dX0_sooner_10 rfl (lv_at hl 2 rfl) ?_
  refine ox_l6 (j := b) C hO (nI_clamp (by omega)) (vp_in_nI (by omega) (by omega)) dX0_sooner_11 ?_
  refine lv_icmp_eq (tgt := 36) C.1 C.2.1 dX0_sooner_12 (by decide) (fun c12 => ?_) (fun c12 => ?_)
  · refine ox_g8 C hO (lv_at hl 0 rfl) dX0_sooner_36 dX0_sooner_37 ?_
    refine lv_iload_n C.1 C.2.1 dX0_sooner_40 rfl (lv_at hl 1 rfl) ?_
    refine ox_l8 (j := a) C hO (nI_clamp (by omega)) (vp_in_nI (by omega) (by omega)) dX0_sooner_41 ?_
    refine ox_g8 C hO (lv_at hl 0 rfl) dX0_sooner_42 dX0_sooner_43 ?_
    refine lv_iload_n C.1 C.2.1 dX0_sooner_46 rfl (lv_at hl 2 rfl) ?_
    refine ox_l8 (j := b) C hO (nI_clamp (by omega)) (vp_in_nI (by omega) (by omega)) dX0_sooner_47 ?_
    refine lv_icmp_eq (tgt := 72) C.1 C.2.1 dX0_sooner_48 (by decide) (fun c48 => ?_) (fun c48 => ?_)
    · refine ox_g9 C hO (lv_at hl 0 rfl) dX0_sooner_72 dX0_sooner_73 ?_
      refine lv_iload_n C.1 C.2.1 dX0_sooner_76 rfl (lv_at hl 1 rfl) ?_
      refine ox_l9 (j := a) C hO (nI_clamp (by omega)) (vp_in_nI (by omega) (by omega)) dX0_sooner_77 ?_
      refine ox_g9 C hO (lv_at hl 0 rfl) dX0_sooner_78 dX0_sooner_79 ?_
      refine lv_iload_n C.1 C.2.1 dX0_sooner_82 rfl (lv_at hl 2 rfl) ?_
      refine ox_l9 (j := b) C hO (nI_clamp (by omega)) (vp_in_nI (by omega) (by omega)) dX0_sooner_83 ?_
      refine lv_icmp_eq (tgt := 108) C.1 C.2.1 dX0_sooner_84 (by decide) (fun c84 => ?_) (fun c84 => ?_)
      · refine lv_iload_n C.1 C.2.1 dX0_sooner_108 rfl (lv_at hl 1 rfl) ?_
        refine lv_iload_n C.1 C.2.1 dX0_sooner_109 rfl (lv_at hl 2 rfl) ?_
        refine lv_icmp_ge (tgt := 117) C.1 C.2.1 dX0_sooner_110 (by decide) (fun c110 => ?_) (fun c110 => ?_)
        · have c110 := Int32.not_lt.mpr c110
          refine lv_iconst (v := 0) C.1 C.2.1 dX0_sooner_117 (by decide) ?_
          rw [hab] at c110
          exact ox_rz C hO hS (by simp [os_soon, os_bit, c12, c48, c84, c110]) rfl rfl hr hlk dX0_sooner_118
        · have c110 := Int32.not_le.mp c110
          refine lv_iconst (v := 1) C.1 C.2.1 dX0_sooner_113 (by decide) ?_
          refine lv_goto (tgt := 118) C.1 C.2.1 dX0_sooner_114 (by decide) ?_
          rw [hab] at c110
          exact ox_rz C hO hS (by simp [os_soon, os_bit, c12, c48, c84, c110]) rfl rfl hr hlk dX0_sooner_118
      · refine ox_g9 C hO (lv_at hl 0 rfl) dX0_sooner_87 dX0_sooner_88 ?_
        refine lv_iload_n C.1 C.2.1 dX0_sooner_91 rfl (lv_at hl 1 rfl) ?_
        refine ox_l9 (j := a) C hO (nI_clamp (by omega)) (vp_in_nI (by omega) (by omega)) dX0_sooner_92 ?_
        refine ox_g9 C hO (lv_at hl 0 rfl) dX0_sooner_93 dX0_sooner_94 ?_
        refine lv_iload_n C.1 C.2.1 dX0_sooner_97 rfl (lv_at hl 2 rfl) ?_
        refine ox_l9 (j := b) C hO (nI_clamp (by omega)) (vp_in_nI (by omega) (by omega)) dX0_sooner_98 ?_
        refine lv_icmp_ge (tgt := 106) C.1 C.2.1 dX0_sooner_99 (by decide) (fun c99 => ?_) (fun c99 => ?_)
        · have c99 := Int32.not_lt.mpr c99
          refine lv_iconst (v := 0) C.1 C.2.1 dX0_sooner_106 (by decide) ?_
          exact ox_rz C hO hS (by simp [os_soon, os_bit, c12, c48, c84, c99]) rfl rfl hr hlk dX0_sooner_107
        · have c99 := Int32.not_le.mp c99
          refine lv_iconst (v := 1) C.1 C.2.1 dX0_sooner_102 (by decide) ?_
          refine lv_goto (tgt := 107) C.1 C.2.1 dX0_sooner_103 (by decide) ?_
          exact ox_rz C hO hS (by simp [os_soon, os_bit, c12, c48, c84, c99]) rfl rfl hr hlk dX0_sooner_107
    · refine ox_g8 C hO (lv_at hl 0 rfl) dX0_sooner_51 dX0_sooner_52 ?_
      refine lv_iload_n C.1 C.2.1 dX0_sooner_55 rfl (lv_at hl 1 rfl) ?_
      refine ox_l8 (j := a) C hO (nI_clamp (by omega)) (vp_in_nI (by omega) (by omega)) dX0_sooner_56 ?_
      refine ox_g8 C hO (lv_at hl 0 rfl) dX0_sooner_57 dX0_sooner_58 ?_
      refine lv_iload_n C.1 C.2.1 dX0_sooner_61 rfl (lv_at hl 2 rfl) ?_
      refine ox_l8 (j := b) C hO (nI_clamp (by omega)) (vp_in_nI (by omega) (by omega)) dX0_sooner_62 ?_
      refine lv_icmp_ge (tgt := 70) C.1 C.2.1 dX0_sooner_63 (by decide) (fun c63 => ?_) (fun c63 => ?_)
      · have c63 := Int32.not_lt.mpr c63
        refine lv_iconst (v := 0) C.1 C.2.1 dX0_sooner_70 (by decide) ?_
        exact ox_rz C hO hS (by simp [os_soon, os_bit, c12, c48, c63]) rfl rfl hr hlk dX0_sooner_71
      · have c63 := Int32.not_le.mp c63
        refine lv_iconst (v := 1) C.1 C.2.1 dX0_sooner_66 (by decide) ?_
        refine lv_goto (tgt := 71) C.1 C.2.1 dX0_sooner_67 (by decide) ?_
        exact ox_rz C hO hS (by simp [os_soon, os_bit, c12, c48, c63]) rfl rfl hr hlk dX0_sooner_71
  · refine ox_g6 C hO (lv_at hl 0 rfl) dX0_sooner_15 dX0_sooner_16 ?_
    refine lv_iload_n C.1 C.2.1 dX0_sooner_19 rfl (lv_at hl 1 rfl) ?_
    refine ox_l6 (j := a) C hO (nI_clamp (by omega)) (vp_in_nI (by omega) (by omega)) dX0_sooner_20 ?_
    refine ox_g6 C hO (lv_at hl 0 rfl) dX0_sooner_21 dX0_sooner_22 ?_
    refine lv_iload_n C.1 C.2.1 dX0_sooner_25 rfl (lv_at hl 2 rfl) ?_
    refine ox_l6 (j := b) C hO (nI_clamp (by omega)) (vp_in_nI (by omega) (by omega)) dX0_sooner_26 ?_
    refine lv_icmp_ge (tgt := 34) C.1 C.2.1 dX0_sooner_27 (by decide) (fun c27 => ?_) (fun c27 => ?_)
    · have c27 := Int32.not_lt.mpr c27
      refine lv_iconst (v := 0) C.1 C.2.1 dX0_sooner_34 (by decide) ?_
      exact ox_rz C hO hS (by simp [os_soon, os_bit, c12, c27]) rfl rfl hr hlk dX0_sooner_35
    · have c27 := Int32.not_le.mp c27
      refine lv_iconst (v := 1) C.1 C.2.1 dX0_sooner_30 (by decide) ?_
      refine lv_goto (tgt := 35) C.1 C.2.1 dX0_sooner_31 (by decide) ?_
      exact ox_rz C hO hS (by simp [os_soon, os_bit, c12, c27]) rfl rfl hr hlk dX0_sooner_35
set_option maxHeartbeats 4000000 in
theorem mx_next (l : Launch) (D : va_G) (cI cZ : ClassId) (h : Nat) (ad : Nat → Nat) (σ : os_St) (x : Int32) : os_MI l yX0_nextOf cX0_nextOf 4 .int (os_rm 1 22) (ox_A h ad) [.ref h, .int x] (ox_W D cI cZ h ad σ) (ox_W D cI cZ h ad σ) (os_enc (os_next σ x 96)) := by
  refine ox_ei (by decide) rfl (Nat.le_of_ble_eq_true rfl) ?_
  intro pg e s m below meth c C hr hlk hO hS ls hl
  have hl : lv_has ls 4 [(0, .ref h), (1, .int x)] := hl
  have loop : ∀ (n i : Nat) (ob : Option Nat), i + n = 96 → os_next σ x i = ob → ∀ (H : Heap) (locs : List Loc), ox_P D cI cZ h ad σ H → va_S (ox_A h ad) s.heap H locs → ∀ ls : Array Slot, lv_has ls 4 [(0, .ref h), (1, .int x), (2, .int (os_enc ob)), (3, .int (nI i))] → W pg l e (os_rm 1 22) s m ([.ref h, .int x] : List Value).toArray below meth c H locs 0 0 (ox_QI below D cI cZ h ad σ (os_enc (os_next σ x 96)) ([.ref h, .int x] : List Value).toArray s) (F0 m 4 ls []) := by
    intro n
    induction n with
    | zero =>
      intro i ob hi hob H locs hO hS ls hl
      obtain rfl : i = 96 := by omega
      refine lv_iload_n C.1 C.2.1 dX0_nextOf_4 rfl (lv_at hl 3 rfl) ?_
      refine lv_bipush (v := 96) C.1 C.2.1 dX0_nextOf_5 (by decide) ?_
      refine lv_icmp_ge (tgt := 59) C.1 C.2.1 dX0_nextOf_7 (by decide) (fun c7 => ?_) (fun c7 => ?_)
      · have c7 := Int32.not_lt.mpr c7
        refine lv_iload_n C.1 C.2.1 dX0_nextOf_59 rfl (lv_at hl 2 rfl) ?_
        exact ox_ri C hO hS (by rw [hob]) rfl hr hlk dX0_nextOf_60
      · have c7 := Int32.not_le.mp c7
        exact absurd c7 (by decide)
    | succ n ih =>
      intro i ob hi hob H locs hO hS ls hl
      have hi96 : i < 96 := by omega
      cases ob with
      | none =>
        have hl : lv_has ls 4 [(0, .ref h), (1, .int x), (2, .int (os_enc none)), (3, .int (nI i))] := hl
        refine lv_iload_n C.1 C.2.1 dX0_nextOf_4 rfl (lv_at hl 3 rfl) ?_
        refine lv_bipush (v := 96) C.1 C.2.1 dX0_nextOf_5 (by decide) ?_
        refine lv_icmp_ge (tgt := 59) C.1 C.2.1 dX0_nextOf_7 (by decide) (fun c7 => ?_) (fun c7 => ?_)
        · have c7 := Int32.not_lt.mpr c7
          exact absurd (nI_lt (a := i) (b := 96) (by omega) (by omega)) c7
        · have c7 := Int32.not_le.mp c7
          refine ox_g5 C hO (lv_at hl 0 rfl) dX0_nextOf_10 dX0_nextOf_11 ?_
          refine lv_iload_n C.1 C.2.1 dX0_nextOf_14 rfl (lv_at hl 3 rfl) ?_
          refine ox_l5 (j := i) C hO (nI_clamp (by omega)) (vp_in_nI (by omega) (by omega)) dX0_nextOf_15 ?_
          refine lv_if_eq (tgt := 53) C.1 C.2.1 dX0_nextOf_16 (by decide) (fun c16 => ?_) (fun c16 => ?_)
          · refine lv_iinc (v := nI (i + 1)) (lv' := [(3, .int (nI (i + 1))), (0, .ref h), (1, .int x), (2, .int (os_enc none))]) C.1 C.2.1 dX0_nextOf_53 hl (k := 3) rfl (nI_1 i) (by decide) rfl (fun ls hl => ?_)
            refine lv_goto (tgt := 4) C.1 C.2.1 dX0_nextOf_56 (by decide) ?_
            exact ih (i + 1) none (by omega) ((os_best_k0 (by simp [os_okN, c16])).trans hob) H locs hO hS ls (lv_sub hl [1, 2, 3, 0] rfl)
          · refine ox_g10 C hO (lv_at hl 0 rfl) dX0_nextOf_19 dX0_nextOf_20 ?_
            refine lv_iload_n C.1 C.2.1 dX0_nextOf_23 rfl (lv_at hl 3 rfl) ?_
            refine ox_l10 (j := i) C hO (nI_clamp (by omega)) (vp_in_nI (by omega) (by omega)) dX0_nextOf_24 ?_
            refine lv_if_ne (tgt := 53) C.1 C.2.1 dX0_nextOf_25 (by decide) (fun c25 => ?_) (fun c25 => ?_)
            · refine lv_iinc (v := nI (i + 1)) (lv' := [(3, .int (nI (i + 1))), (0, .ref h), (1, .int x), (2, .int (os_enc none))]) C.1 C.2.1 dX0_nextOf_53 hl (k := 3) rfl (nI_1 i) (by decide) rfl (fun ls hl => ?_)
              refine lv_goto (tgt := 4) C.1 C.2.1 dX0_nextOf_56 (by decide) ?_
              exact ih (i + 1) none (by omega) ((os_best_k0 (by simp [os_okN, c16, c25])).trans hob) H locs hO hS ls (lv_sub hl [1, 2, 3, 0] rfl)
            · refine ox_g7 C hO (lv_at hl 0 rfl) dX0_nextOf_28 dX0_nextOf_29 ?_
              refine lv_iload_n C.1 C.2.1 dX0_nextOf_32 rfl (lv_at hl 3 rfl) ?_
              refine ox_l7 (j := i) C hO (nI_clamp (by omega)) (vp_in_nI (by omega) (by omega)) dX0_nextOf_33 ?_
              refine lv_iload_n C.1 C.2.1 dX0_nextOf_34 rfl (lv_at hl 1 rfl) ?_
              refine lv_icmp_ne (tgt := 53) C.1 C.2.1 dX0_nextOf_35 (by decide) (fun c35 => ?_) (fun c35 => ?_)
              · refine lv_iinc (v := nI (i + 1)) (lv' := [(3, .int (nI (i + 1))), (0, .ref h), (1, .int x), (2, .int (os_enc none))]) C.1 C.2.1 dX0_nextOf_53 hl (k := 3) rfl (nI_1 i) (by decide) rfl (fun ls hl => ?_)
                refine lv_goto (tgt := 4) C.1 C.2.1 dX0_nextOf_56 (by decide) ?_
                exact ih (i + 1) none (by omega) ((os_best_k0 (by simp [os_okN, c16, c25, c35])).trans hob) H locs hO hS ls (lv_sub hl [1, 2, 3, 0] rfl)
              · refine lv_iload_n C.1 C.2.1 dX0_nextOf_38 rfl (lv_at hl 2 rfl) ?_
                refine lv_if_lt (tgt := 51) C.1 C.2.1 dX0_nextOf_39 (by decide) (fun c39 => ?_) (fun c39 => ?_)
                · refine lv_iload_n C.1 C.2.1 dX0_nextOf_51 rfl (lv_at hl 3 rfl) ?_
                  refine lv_istore_n (lv' := [(2, .int (nI i)), (0, .ref h), (1, .int x), (3, .int (nI i))]) C.1 C.2.1 dX0_nextOf_52 rfl hl (by decide) rfl (fun ls hl => ?_)
                  refine lv_iinc (v := nI (i + 1)) (lv' := [(3, .int (nI (i + 1))), (2, .int (nI i)), (0, .ref h), (1, .int x)]) C.1 C.2.1 dX0_nextOf_53 hl (k := 3) rfl (nI_1 i) (by decide) rfl (fun ls hl => ?_)
                  refine lv_goto (tgt := 4) C.1 C.2.1 dX0_nextOf_56 (by decide) ?_
                  exact ih (i + 1) (some i) (by omega) (os_best_t0 hob (by simp [os_okN, c16, c25, c35])) H locs hO hS ls (lv_sub hl [2, 3, 1, 0] rfl)
                · exact absurd os_m1neg c39
      | some b =>
        have hb96 : b < i := os_best_lt hob
        have hl : lv_has ls 4 [(0, .ref h), (1, .int x), (2, .int (nI b)), (3, .int (nI i))] := hl
        refine lv_iload_n C.1 C.2.1 dX0_nextOf_4 rfl (lv_at hl 3 rfl) ?_
        refine lv_bipush (v := 96) C.1 C.2.1 dX0_nextOf_5 (by decide) ?_
        refine lv_icmp_ge (tgt := 59) C.1 C.2.1 dX0_nextOf_7 (by decide) (fun c7 => ?_) (fun c7 => ?_)
        · have c7 := Int32.not_lt.mpr c7
          exact absurd (nI_lt (a := i) (b := 96) (by omega) (by omega)) c7
        · have c7 := Int32.not_le.mp c7
          refine ox_g5 C hO (lv_at hl 0 rfl) dX0_nextOf_10 dX0_nextOf_11 ?_
          refine lv_iload_n C.1 C.2.1 dX0_nextOf_14 rfl (lv_at hl 3 rfl) ?_
          refine ox_l5 (j := i) C hO (nI_clamp (by omega)) (vp_in_nI (by omega) (by omega)) dX0_nextOf_15 ?_
          refine lv_if_eq (tgt := 53) C.1 C.2.1 dX0_nextOf_16 (by decide) (fun c16 => ?_) (fun c16 => ?_)
          · refine lv_iinc (v := nI (i + 1)) (lv' := [(3, .int (nI (i + 1))), (0, .ref h), (1, .int x), (2, .int (nI b))]) C.1 C.2.1 dX0_nextOf_53 hl (k := 3) rfl (nI_1 i) (by decide) rfl (fun ls hl => ?_)
            refine lv_goto (tgt := 4) C.1 C.2.1 dX0_nextOf_56 (by decide) ?_
            exact ih (i + 1) (some b) (by omega) ((os_best_k0 (by simp [os_okN, c16])).trans hob) H locs hO hS ls (lv_sub hl [1, 2, 3, 0] rfl)
          · refine ox_g10 C hO (lv_at hl 0 rfl) dX0_nextOf_19 dX0_nextOf_20 ?_
            refine lv_iload_n C.1 C.2.1 dX0_nextOf_23 rfl (lv_at hl 3 rfl) ?_
            refine ox_l10 (j := i) C hO (nI_clamp (by omega)) (vp_in_nI (by omega) (by omega)) dX0_nextOf_24 ?_
            refine lv_if_ne (tgt := 53) C.1 C.2.1 dX0_nextOf_25 (by decide) (fun c25 => ?_) (fun c25 => ?_)
            · refine lv_iinc (v := nI (i + 1)) (lv' := [(3, .int (nI (i + 1))), (0, .ref h), (1, .int x), (2, .int (nI b))]) C.1 C.2.1 dX0_nextOf_53 hl (k := 3) rfl (nI_1 i) (by decide) rfl (fun ls hl => ?_)
              refine lv_goto (tgt := 4) C.1 C.2.1 dX0_nextOf_56 (by decide) ?_
              exact ih (i + 1) (some b) (by omega) ((os_best_k0 (by simp [os_okN, c16, c25])).trans hob) H locs hO hS ls (lv_sub hl [1, 2, 3, 0] rfl)
            · refine ox_g7 C hO (lv_at hl 0 rfl) dX0_nextOf_28 dX0_nextOf_29 ?_
              refine lv_iload_n C.1 C.2.1 dX0_nextOf_32 rfl (lv_at hl 3 rfl) ?_
              refine ox_l7 (j := i) C hO (nI_clamp (by omega)) (vp_in_nI (by omega) (by omega)) dX0_nextOf_33 ?_
              refine lv_iload_n C.1 C.2.1 dX0_nextOf_34 rfl (lv_at hl 1 rfl) ?_
              refine lv_icmp_ne (tgt := 53) C.1 C.2.1 dX0_nextOf_35 (by decide) (fun c35 => ?_) (fun c35 => ?_)
              · refine lv_iinc (v := nI (i + 1)) (lv' := [(3, .int (nI (i + 1))), (0, .ref h), (1, .int x), (2, .int (nI b))]) C.1 C.2.1 dX0_nextOf_53 hl (k := 3) rfl (nI_1 i) (by decide) rfl (fun ls hl => ?_)
                refine lv_goto (tgt := 4) C.1 C.2.1 dX0_nextOf_56 (by decide) ?_
                exact ih (i + 1) (some b) (by omega) ((os_best_k0 (by simp [os_okN, c16, c25, c35])).trans hob) H locs hO hS ls (lv_sub hl [1, 2, 3, 0] rfl)
              · refine lv_iload_n C.1 C.2.1 dX0_nextOf_38 rfl (lv_at hl 2 rfl) ?_
                refine lv_if_lt (tgt := 51) C.1 C.2.1 dX0_nextOf_39 (by decide) (fun c39 => ?_) (fun c39 => ?_)
                · exact absurd c39 (os_nneg (by omega))
                · refine lv_aload_n C.1 C.2.1 dX0_nextOf_42 rfl (lv_at hl 0 rfl) ?_
                  refine lv_iload_n C.1 C.2.1 dX0_nextOf_43 rfl (lv_at hl 3 rfl) ?_
                  refine lv_iload_n C.1 C.2.1 dX0_nextOf_44 rfl (lv_at hl 2 rfl) ?_
                  refine ox_ci (As := [.int (nI i), .int (nI b)]) (rest := []) C (mx_sooner l D cI cZ h ad σ i b (by omega) (by omega)) (cwV 2 C.2.2.2.2.1 (lw_V q124 q126 qs4 q23 q127) rfl rfl rfl (by decide +kernel) ⟨Nat.le_of_ble_eq_true rfl, Nat.le_of_ble_eq_true rfl⟩) hO hS rfl rfl hl.1 (Nat.le_of_ble_eq_true rfl) dX0_nextOf_45 ⟨Nat.zero_le _, Nat.zero_le _⟩ (fun H locs hO hS => ?_)
                  refine lv_if_eq (tgt := 53) C.1 C.2.1 dX0_nextOf_48 (by decide) (fun c48 => ?_) (fun c48 => ?_)
                  · refine lv_iinc (v := nI (i + 1)) (lv' := [(3, .int (nI (i + 1))), (0, .ref h), (1, .int x), (2, .int (nI b))]) C.1 C.2.1 dX0_nextOf_53 hl (k := 3) rfl (nI_1 i) (by decide) rfl (fun ls hl => ?_)
                    refine lv_goto (tgt := 4) C.1 C.2.1 dX0_nextOf_56 (by decide) ?_
                    exact ih (i + 1) (some b) (by omega) (os_best_k1 hob (os_bit_f c48)) H locs hO hS ls (lv_sub hl [1, 2, 3, 0] rfl)
                  · refine lv_iload_n C.1 C.2.1 dX0_nextOf_51 rfl (lv_at hl 3 rfl) ?_
                    refine lv_istore_n (lv' := [(2, .int (nI i)), (0, .ref h), (1, .int x), (3, .int (nI i))]) C.1 C.2.1 dX0_nextOf_52 rfl hl (by decide) rfl (fun ls hl => ?_)
                    refine lv_iinc (v := nI (i + 1)) (lv' := [(3, .int (nI (i + 1))), (2, .int (nI i)), (0, .ref h), (1, .int x)]) C.1 C.2.1 dX0_nextOf_53 hl (k := 3) rfl (nI_1 i) (by decide) rfl (fun ls hl => ?_)
                    refine lv_goto (tgt := 4) C.1 C.2.1 dX0_nextOf_56 (by decide) ?_
                    exact ih (i + 1) (some i) (by omega) (os_best_t1 hob (by simp [os_okN, c16, c25, c35]) (os_bit_t c48)) H locs hO hS ls (lv_sub hl [2, 3, 1, 0] rfl)
  refine lv_iconst (v := -1) C.1 C.2.1 dX0_nextOf_0 (by decide) ?_
  refine lv_istore_n (lv' := [(2, .int (-1)), (0, .ref h), (1, .int x)]) C.1 C.2.1 dX0_nextOf_1 rfl hl (by decide) rfl (fun ls hl => ?_)
  refine lv_iconst (v := 0) C.1 C.2.1 dX0_nextOf_2 (by decide) ?_
  refine lv_istore_n (lv' := [(3, .int 0), (2, .int (-1)), (0, .ref h), (1, .int x)]) C.1 C.2.1 dX0_nextOf_3 rfl hl (by decide) rfl (fun ls hl => ?_)
  exact loop 96 0 none rfl os_best_0 s.heap [] hO hS ls (lv_sub hl [2, 3, 1, 0] rfl)
set_option maxHeartbeats 4000000 in
theorem mx_last (l : Launch) (D : va_G) (cI cZ : ClassId) (h : Nat) (ad : Nat → Nat) (σ : os_St) (x : Int32) : os_MI l yX0_lastOf cX0_lastOf 4 .int (os_rm 1 22) (ox_A h ad) [.ref h, .int x] (ox_W D cI cZ h ad σ) (ox_W D cI cZ h ad σ) (os_enc (os_last σ x 96)) := by
  refine ox_ei (by decide) rfl (Nat.le_of_ble_eq_true rfl) ?_
  intro pg e s m below meth c C hr hlk hO hS ls hl
  have hl : lv_has ls 4 [(0, .ref h), (1, .int x)] := hl
  have loop : ∀ (n i : Nat) (ob : Option Nat), i + n = 96 → os_last σ x i = ob → ∀ (H : Heap) (locs : List Loc), ox_P D cI cZ h ad σ H → va_S (ox_A h ad) s.heap H locs → ∀ ls : Array Slot, lv_has ls 4 [(0, .ref h), (1, .int x), (2, .int (os_enc ob)), (3, .int (nI i))] → W pg l e (os_rm 1 22) s m ([.ref h, .int x] : List Value).toArray below meth c H locs 0 0 (ox_QI below D cI cZ h ad σ (os_enc (os_last σ x 96)) ([.ref h, .int x] : List Value).toArray s) (F0 m 4 ls []) := by
    intro n
    induction n with
    | zero =>
      intro i ob hi hob H locs hO hS ls hl
      obtain rfl : i = 96 := by omega
      refine lv_iload_n C.1 C.2.1 dX0_lastOf_4 rfl (lv_at hl 3 rfl) ?_
      refine lv_bipush (v := 96) C.1 C.2.1 dX0_lastOf_5 (by decide) ?_
      refine lv_icmp_ge (tgt := 59) C.1 C.2.1 dX0_lastOf_7 (by decide) (fun c7 => ?_) (fun c7 => ?_)
      · have c7 := Int32.not_lt.mpr c7
        refine lv_iload_n C.1 C.2.1 dX0_lastOf_59 rfl (lv_at hl 2 rfl) ?_
        exact ox_ri C hO hS (by rw [hob]) rfl hr hlk dX0_lastOf_60
      · have c7 := Int32.not_le.mp c7
        exact absurd c7 (by decide)
    | succ n ih =>
      intro i ob hi hob H locs hO hS ls hl
      have hi96 : i < 96 := by omega
      cases ob with
      | none =>
        have hl : lv_has ls 4 [(0, .ref h), (1, .int x), (2, .int (os_enc none)), (3, .int (nI i))] := hl
        refine lv_iload_n C.1 C.2.1 dX0_lastOf_4 rfl (lv_at hl 3 rfl) ?_
        refine lv_bipush (v := 96) C.1 C.2.1 dX0_lastOf_5 (by decide) ?_
        refine lv_icmp_ge (tgt := 59) C.1 C.2.1 dX0_lastOf_7 (by decide) (fun c7 => ?_) (fun c7 => ?_)
        · have c7 := Int32.not_lt.mpr c7
          exact absurd (nI_lt (a := i) (b := 96) (by omega) (by omega)) c7
        · have c7 := Int32.not_le.mp c7
          refine ox_g5 C hO (lv_at hl 0 rfl) dX0_lastOf_10 dX0_lastOf_11 ?_
          refine lv_iload_n C.1 C.2.1 dX0_lastOf_14 rfl (lv_at hl 3 rfl) ?_
          refine ox_l5 (j := i) C hO (nI_clamp (by omega)) (vp_in_nI (by omega) (by omega)) dX0_lastOf_15 ?_
          refine lv_if_eq (tgt := 53) C.1 C.2.1 dX0_lastOf_16 (by decide) (fun c16 => ?_) (fun c16 => ?_)
          · refine lv_iinc (v := nI (i + 1)) (lv' := [(3, .int (nI (i + 1))), (0, .ref h), (1, .int x), (2, .int (os_enc none))]) C.1 C.2.1 dX0_lastOf_53 hl (k := 3) rfl (nI_1 i) (by decide) rfl (fun ls hl => ?_)
            refine lv_goto (tgt := 4) C.1 C.2.1 dX0_lastOf_56 (by decide) ?_
            exact ih (i + 1) none (by omega) ((os_best_k0 (by simp [os_okL, c16])).trans hob) H locs hO hS ls (lv_sub hl [1, 2, 3, 0] rfl)
          · refine ox_g10 C hO (lv_at hl 0 rfl) dX0_lastOf_19 dX0_lastOf_20 ?_
            refine lv_iload_n C.1 C.2.1 dX0_lastOf_23 rfl (lv_at hl 3 rfl) ?_
            refine ox_l10 (j := i) C hO (nI_clamp (by omega)) (vp_in_nI (by omega) (by omega)) dX0_lastOf_24 ?_
            refine lv_if_eq (tgt := 53) C.1 C.2.1 dX0_lastOf_25 (by decide) (fun c25 => ?_) (fun c25 => ?_)
            · refine lv_iinc (v := nI (i + 1)) (lv' := [(3, .int (nI (i + 1))), (0, .ref h), (1, .int x), (2, .int (os_enc none))]) C.1 C.2.1 dX0_lastOf_53 hl (k := 3) rfl (nI_1 i) (by decide) rfl (fun ls hl => ?_)
              refine lv_goto (tgt := 4) C.1 C.2.1 dX0_lastOf_56 (by decide) ?_
              exact ih (i + 1) none (by omega) ((os_best_k0 (by simp [os_okL, c16, c25])).trans hob) H locs hO hS ls (lv_sub hl [1, 2, 3, 0] rfl)
            · refine ox_g7 C hO (lv_at hl 0 rfl) dX0_lastOf_28 dX0_lastOf_29 ?_
              refine lv_iload_n C.1 C.2.1 dX0_lastOf_32 rfl (lv_at hl 3 rfl) ?_
              refine ox_l7 (j := i) C hO (nI_clamp (by omega)) (vp_in_nI (by omega) (by omega)) dX0_lastOf_33 ?_
              refine lv_iload_n C.1 C.2.1 dX0_lastOf_34 rfl (lv_at hl 1 rfl) ?_
              refine lv_icmp_ne (tgt := 53) C.1 C.2.1 dX0_lastOf_35 (by decide) (fun c35 => ?_) (fun c35 => ?_)
              · refine lv_iinc (v := nI (i + 1)) (lv' := [(3, .int (nI (i + 1))), (0, .ref h), (1, .int x), (2, .int (os_enc none))]) C.1 C.2.1 dX0_lastOf_53 hl (k := 3) rfl (nI_1 i) (by decide) rfl (fun ls hl => ?_)
                refine lv_goto (tgt := 4) C.1 C.2.1 dX0_lastOf_56 (by decide) ?_
                exact ih (i + 1) none (by omega) ((os_best_k0 (by simp [os_okL, c16, c25, c35])).trans hob) H locs hO hS ls (lv_sub hl [1, 2, 3, 0] rfl)
              · refine lv_iload_n C.1 C.2.1 dX0_lastOf_38 rfl (lv_at hl 2 rfl) ?_
                refine lv_if_lt (tgt := 51) C.1 C.2.1 dX0_lastOf_39 (by decide) (fun c39 => ?_) (fun c39 => ?_)
                · refine lv_iload_n C.1 C.2.1 dX0_lastOf_51 rfl (lv_at hl 3 rfl) ?_
                  refine lv_istore_n (lv' := [(2, .int (nI i)), (0, .ref h), (1, .int x), (3, .int (nI i))]) C.1 C.2.1 dX0_lastOf_52 rfl hl (by decide) rfl (fun ls hl => ?_)
                  refine lv_iinc (v := nI (i + 1)) (lv' := [(3, .int (nI (i + 1))), (2, .int (nI i)), (0, .ref h), (1, .int x)]) C.1 C.2.1 dX0_lastOf_53 hl (k := 3) rfl (nI_1 i) (by decide) rfl (fun ls hl => ?_)
                  refine lv_goto (tgt := 4) C.1 C.2.1 dX0_lastOf_56 (by decide) ?_
                  exact ih (i + 1) (some i) (by omega) (os_best_t0 hob (by simp [os_okL, c16, c25, c35])) H locs hO hS ls (lv_sub hl [2, 3, 1, 0] rfl)
                · exact absurd os_m1neg c39
      | some b =>
        have hb96 : b < i := os_best_lt hob
        have hl : lv_has ls 4 [(0, .ref h), (1, .int x), (2, .int (nI b)), (3, .int (nI i))] := hl
        refine lv_iload_n C.1 C.2.1 dX0_lastOf_4 rfl (lv_at hl 3 rfl) ?_
        refine lv_bipush (v := 96) C.1 C.2.1 dX0_lastOf_5 (by decide) ?_
        refine lv_icmp_ge (tgt := 59) C.1 C.2.1 dX0_lastOf_7 (by decide) (fun c7 => ?_) (fun c7 => ?_)
        · have c7 := Int32.not_lt.mpr c7
          exact absurd (nI_lt (a := i) (b := 96) (by omega) (by omega)) c7
        · have c7 := Int32.not_le.mp c7
          refine ox_g5 C hO (lv_at hl 0 rfl) dX0_lastOf_10 dX0_lastOf_11 ?_
          refine lv_iload_n C.1 C.2.1 dX0_lastOf_14 rfl (lv_at hl 3 rfl) ?_
          refine ox_l5 (j := i) C hO (nI_clamp (by omega)) (vp_in_nI (by omega) (by omega)) dX0_lastOf_15 ?_
          refine lv_if_eq (tgt := 53) C.1 C.2.1 dX0_lastOf_16 (by decide) (fun c16 => ?_) (fun c16 => ?_)
          · refine lv_iinc (v := nI (i + 1)) (lv' := [(3, .int (nI (i + 1))), (0, .ref h), (1, .int x), (2, .int (nI b))]) C.1 C.2.1 dX0_lastOf_53 hl (k := 3) rfl (nI_1 i) (by decide) rfl (fun ls hl => ?_)
            refine lv_goto (tgt := 4) C.1 C.2.1 dX0_lastOf_56 (by decide) ?_
            exact ih (i + 1) (some b) (by omega) ((os_best_k0 (by simp [os_okL, c16])).trans hob) H locs hO hS ls (lv_sub hl [1, 2, 3, 0] rfl)
          · refine ox_g10 C hO (lv_at hl 0 rfl) dX0_lastOf_19 dX0_lastOf_20 ?_
            refine lv_iload_n C.1 C.2.1 dX0_lastOf_23 rfl (lv_at hl 3 rfl) ?_
            refine ox_l10 (j := i) C hO (nI_clamp (by omega)) (vp_in_nI (by omega) (by omega)) dX0_lastOf_24 ?_
            refine lv_if_eq (tgt := 53) C.1 C.2.1 dX0_lastOf_25 (by decide) (fun c25 => ?_) (fun c25 => ?_)
            · refine lv_iinc (v := nI (i + 1)) (lv' := [(3, .int (nI (i + 1))), (0, .ref h), (1, .int x), (2, .int (nI b))]) C.1 C.2.1 dX0_lastOf_53 hl (k := 3) rfl (nI_1 i) (by decide) rfl (fun ls hl => ?_)
              refine lv_goto (tgt := 4) C.1 C.2.1 dX0_lastOf_56 (by decide) ?_
              exact ih (i + 1) (some b) (by omega) ((os_best_k0 (by simp [os_okL, c16, c25])).trans hob) H locs hO hS ls (lv_sub hl [1, 2, 3, 0] rfl)
            · refine ox_g7 C hO (lv_at hl 0 rfl) dX0_lastOf_28 dX0_lastOf_29 ?_
              refine lv_iload_n C.1 C.2.1 dX0_lastOf_32 rfl (lv_at hl 3 rfl) ?_
              refine ox_l7 (j := i) C hO (nI_clamp (by omega)) (vp_in_nI (by omega) (by omega)) dX0_lastOf_33 ?_
              refine lv_iload_n C.1 C.2.1 dX0_lastOf_34 rfl (lv_at hl 1 rfl) ?_
              refine lv_icmp_ne (tgt := 53) C.1 C.2.1 dX0_lastOf_35 (by decide) (fun c35 => ?_) (fun c35 => ?_)
              · refine lv_iinc (v := nI (i + 1)) (lv' := [(3, .int (nI (i + 1))), (0, .ref h), (1, .int x), (2, .int (nI b))]) C.1 C.2.1 dX0_lastOf_53 hl (k := 3) rfl (nI_1 i) (by decide) rfl (fun ls hl => ?_)
                refine lv_goto (tgt := 4) C.1 C.2.1 dX0_lastOf_56 (by decide) ?_
                exact ih (i + 1) (some b) (by omega) ((os_best_k0 (by simp [os_okL, c16, c25, c35])).trans hob) H locs hO hS ls (lv_sub hl [1, 2, 3, 0] rfl)
              · refine lv_iload_n C.1 C.2.1 dX0_lastOf_38 rfl (lv_at hl 2 rfl) ?_
                refine lv_if_lt (tgt := 51) C.1 C.2.1 dX0_lastOf_39 (by decide) (fun c39 => ?_) (fun c39 => ?_)
                · exact absurd c39 (os_nneg (by omega))
                · refine lv_aload_n C.1 C.2.1 dX0_lastOf_42 rfl (lv_at hl 0 rfl) ?_
                  refine lv_iload_n C.1 C.2.1 dX0_lastOf_43 rfl (lv_at hl 2 rfl) ?_
                  refine lv_iload_n C.1 C.2.1 dX0_lastOf_44 rfl (lv_at hl 3 rfl) ?_
                  refine ox_ci (As := [.int (nI b), .int (nI i)]) (rest := []) C (mx_sooner l D cI cZ h ad σ b i (by omega) (by omega)) (cwV 2 C.2.2.2.2.1 (lw_V q124 q126 qs4 q23 q127) rfl rfl rfl (by decide +kernel) ⟨Nat.le_of_ble_eq_true rfl, Nat.le_of_ble_eq_true rfl⟩) hO hS rfl rfl hl.1 (Nat.le_of_ble_eq_true rfl) dX0_lastOf_45 ⟨Nat.zero_le _, Nat.zero_le _⟩ (fun H locs hO hS => ?_)
                  refine lv_if_eq (tgt := 53) C.1 C.2.1 dX0_lastOf_48 (by decide) (fun c48 => ?_) (fun c48 => ?_)
                  · refine lv_iinc (v := nI (i + 1)) (lv' := [(3, .int (nI (i + 1))), (0, .ref h), (1, .int x), (2, .int (nI b))]) C.1 C.2.1 dX0_lastOf_53 hl (k := 3) rfl (nI_1 i) (by decide) rfl (fun ls hl => ?_)
                    refine lv_goto (tgt := 4) C.1 C.2.1 dX0_lastOf_56 (by decide) ?_
                    exact ih (i + 1) (some b) (by omega) (os_best_k1 hob (os_bit_f c48)) H locs hO hS ls (lv_sub hl [1, 2, 3, 0] rfl)
                  · refine lv_iload_n C.1 C.2.1 dX0_lastOf_51 rfl (lv_at hl 3 rfl) ?_
                    refine lv_istore_n (lv' := [(2, .int (nI i)), (0, .ref h), (1, .int x), (3, .int (nI i))]) C.1 C.2.1 dX0_lastOf_52 rfl hl (by decide) rfl (fun ls hl => ?_)
                    refine lv_iinc (v := nI (i + 1)) (lv' := [(3, .int (nI (i + 1))), (2, .int (nI i)), (0, .ref h), (1, .int x)]) C.1 C.2.1 dX0_lastOf_53 hl (k := 3) rfl (nI_1 i) (by decide) rfl (fun ls hl => ?_)
                    refine lv_goto (tgt := 4) C.1 C.2.1 dX0_lastOf_56 (by decide) ?_
                    exact ih (i + 1) (some i) (by omega) (os_best_t1 hob (by simp [os_okL, c16, c25, c35]) (os_bit_t c48)) H locs hO hS ls (lv_sub hl [2, 3, 1, 0] rfl)
  refine lv_iconst (v := -1) C.1 C.2.1 dX0_lastOf_0 (by decide) ?_
  refine lv_istore_n (lv' := [(2, .int (-1)), (0, .ref h), (1, .int x)]) C.1 C.2.1 dX0_lastOf_1 rfl hl (by decide) rfl (fun ls hl => ?_)
  refine lv_iconst (v := 0) C.1 C.2.1 dX0_lastOf_2 (by decide) ?_
  refine lv_istore_n (lv' := [(3, .int 0), (2, .int (-1)), (0, .ref h), (1, .int x)]) C.1 C.2.1 dX0_lastOf_3 rfl hl (by decide) rfl (fun ls hl => ?_)
  exact loop 96 0 none rfl os_best_0 s.heap [] hO hS ls (lv_sub hl [2, 3, 1, 0] rfl)
set_option maxHeartbeats 4000000 in
theorem mx_new (l : Launch) (D : va_G) (cI cZ : ClassId) (h : Nat) (ad : Nat → Nat) (σ : os_St) (x t v w : Int32) : os_MI l yX0_newEvent cX0_newEvent 6 .int (os_rm 0 0) (ox_A h ad) [.ref h, .int x, .int t, .int v, .int w] (ox_W D cI cZ h ad σ) (ox_W D cI cZ h ad (os_newAt σ (os_free σ) x t v w)) (nI (os_free σ)) := by
  refine ox_ei (by decide) rfl (Nat.le_of_ble_eq_true rfl) ?_
  intro pg e s m below meth c C hr hlk hO hS ls hl
  have hl : lv_has ls 6 [(0, .ref h), (1, .int x), (2, .int t), (3, .int v), (4, .int w)] := hl
  have tail : ∀ (i : Nat), os_free σ = i → i < 96 → ∀ (H : Heap) (locs : List Loc), ox_P D cI cZ h ad σ H → va_S (ox_A h ad) s.heap H locs → ∀ ls : Array Slot, lv_has ls 6 [(0, .ref h), (1, .int x), (2, .int t), (3, .int v), (4, .int w), (5, .int (nI i))] → W pg l e (os_rm 0 0) s m ([.ref h, .int x, .int t, .int v, .int w] : List Value).toArray below meth c H locs 0 0 (ox_QI below D cI cZ h ad (os_newAt σ (os_free σ) x t v w) (nI (os_free σ)) ([.ref h, .int x, .int t, .int v, .int w] : List Value).toArray s) (F0 m 26 ls []) := by
    intro i hi hi96 H locs hO hS ls hl
    refine ox_g5 C hO (lv_at hl 0 rfl) dX0_newEvent_26 dX0_newEvent_27 ?_
    refine lv_iload C.1 C.2.1 dX0_newEvent_30 (lv_at hl 5 rfl) ?_
    refine lv_iconst (v := 1) C.1 C.2.1 dX0_newEvent_32 (by decide) ?_
    refine ox_s5 (j := i) C hO hS (nI_clamp (by omega)) (vp_in_nI (by omega) (by omega)) os_nz1 dX0_newEvent_33 (fun H locs hO hS => ?_)
    refine ox_g6 C hO (lv_at hl 0 rfl) dX0_newEvent_34 dX0_newEvent_35 ?_
    refine lv_iload C.1 C.2.1 dX0_newEvent_38 (lv_at hl 5 rfl) ?_
    refine lv_iload_n C.1 C.2.1 dX0_newEvent_40 rfl (lv_at hl 2 rfl) ?_
    refine ox_s6 (j := i) C hO hS (nI_clamp (by omega)) (vp_in_nI (by omega) (by omega)) dX0_newEvent_41 (fun H locs hO hS => ?_)
    refine ox_g7 C hO (lv_at hl 0 rfl) dX0_newEvent_42 dX0_newEvent_43 ?_
    refine lv_iload C.1 C.2.1 dX0_newEvent_46 (lv_at hl 5 rfl) ?_
    refine lv_iload_n C.1 C.2.1 dX0_newEvent_48 rfl (lv_at hl 1 rfl) ?_
    refine ox_s7 (j := i) C hO hS (nI_clamp (by omega)) (vp_in_nI (by omega) (by omega)) dX0_newEvent_49 (fun H locs hO hS => ?_)
    refine ox_g8 C hO (lv_at hl 0 rfl) dX0_newEvent_50 dX0_newEvent_51 ?_
    refine lv_iload C.1 C.2.1 dX0_newEvent_54 (lv_at hl 5 rfl) ?_
    refine lv_iload_n C.1 C.2.1 dX0_newEvent_56 rfl (lv_at hl 3 rfl) ?_
    refine ox_s8 (j := i) C hO hS (nI_clamp (by omega)) (vp_in_nI (by omega) (by omega)) dX0_newEvent_57 (fun H locs hO hS => ?_)
    refine ox_g9 C hO (lv_at hl 0 rfl) dX0_newEvent_58 dX0_newEvent_59 ?_
    refine lv_iload C.1 C.2.1 dX0_newEvent_62 (lv_at hl 5 rfl) ?_
    refine lv_iload C.1 C.2.1 dX0_newEvent_64 (lv_at hl 4 rfl) ?_
    refine ox_s9 (j := i) C hO hS (nI_clamp (by omega)) (vp_in_nI (by omega) (by omega)) dX0_newEvent_66 (fun H locs hO hS => ?_)
    refine ox_g10 C hO (lv_at hl 0 rfl) dX0_newEvent_67 dX0_newEvent_68 ?_
    refine lv_iload C.1 C.2.1 dX0_newEvent_71 (lv_at hl 5 rfl) ?_
    refine lv_iconst (v := 0) C.1 C.2.1 dX0_newEvent_73 (by decide) ?_
    refine ox_s10 (j := i) C hO hS (nI_clamp (by omega)) (vp_in_nI (by omega) (by omega)) os_nz0 dX0_newEvent_74 (fun H locs hO hS => ?_)
    refine ox_g12 C hO (lv_at hl 0 rfl) dX0_newEvent_75 dX0_newEvent_76 ?_
    refine lv_iload C.1 C.2.1 dX0_newEvent_79 (lv_at hl 5 rfl) ?_
    refine lv_iconst (v := -1) C.1 C.2.1 dX0_newEvent_81 (by decide) ?_
    refine ox_s12 (j := i) C hO hS (nI_clamp (by omega)) (vp_in_nI (by omega) (by omega)) dX0_newEvent_82 (fun H locs hO hS => ?_)
    refine lv_iload C.1 C.2.1 dX0_newEvent_83 (lv_at hl 5 rfl) ?_
    exact ox_ri C hO hS (by rw [hi]) (by rw [hi]; rfl) hr hlk dX0_newEvent_85
  have loop : ∀ (n i : Nat), i + n = 95 → os_free σ = os_freeF σ n i → ∀ (H : Heap) (locs : List Loc), ox_P D cI cZ h ad σ H → va_S (ox_A h ad) s.heap H locs → ∀ ls : Array Slot, lv_has ls 6 [(0, .ref h), (1, .int x), (2, .int t), (3, .int v), (4, .int w), (5, .int (nI i))] → W pg l e (os_rm 0 0) s m ([.ref h, .int x, .int t, .int v, .int w] : List Value).toArray below meth c H locs 0 0 (ox_QI below D cI cZ h ad (os_newAt σ (os_free σ) x t v w) (nI (os_free σ)) ([.ref h, .int x, .int t, .int v, .int w] : List Value).toArray s) (F0 m 3 ls []) := by
    intro n
    induction n with
    | zero =>
      intro i hi hf H locs hO hS ls hl
      obtain rfl : i = 95 := by omega
      refine lv_iload C.1 C.2.1 dX0_newEvent_3 (lv_at hl 5 rfl) ?_
      refine lv_bipush (v := 95) C.1 C.2.1 dX0_newEvent_5 (by decide) ?_
      refine lv_icmp_ge (tgt := 26) C.1 C.2.1 dX0_newEvent_7 (by decide) (fun c7 => ?_) (fun c7 => ?_)
      · have c7 := Int32.not_lt.mpr c7
        exact tail 95 hf (by omega) H locs hO hS ls (lv_sub hl [0, 1, 2, 3, 4, 5] rfl)
      · have c7 := Int32.not_le.mp c7
        exact absurd c7 (by decide)
    | succ n ih =>
      intro i hi hf H locs hO hS ls hl
      refine lv_iload C.1 C.2.1 dX0_newEvent_3 (lv_at hl 5 rfl) ?_
      refine lv_bipush (v := 95) C.1 C.2.1 dX0_newEvent_5 (by decide) ?_
      refine lv_icmp_ge (tgt := 26) C.1 C.2.1 dX0_newEvent_7 (by decide) (fun c7 => ?_) (fun c7 => ?_)
      · have c7 := Int32.not_lt.mpr c7
        exact absurd (nI_lt (a := i) (b := 95) (by omega) (by omega)) c7
      · have c7 := Int32.not_le.mp c7
        refine ox_g5 C hO (lv_at hl 0 rfl) dX0_newEvent_10 dX0_newEvent_11 ?_
        refine lv_iload C.1 C.2.1 dX0_newEvent_14 (lv_at hl 5 rfl) ?_
        refine ox_l5 (j := i) C hO (nI_clamp (by omega)) (vp_in_nI (by omega) (by omega)) dX0_newEvent_16 ?_
        refine lv_if_eq (tgt := 26) C.1 C.2.1 dX0_newEvent_17 (by decide) (fun c17 => ?_) (fun c17 => ?_)
        · exact tail i (by rw [hf, os_freeF, if_pos c17]) (by omega) H locs hO hS ls (lv_sub hl [0, 1, 2, 3, 4, 5] rfl)
        · refine lv_iinc (v := nI (i + 1)) (lv' := [(5, .int (nI (i + 1))), (0, .ref h), (1, .int x), (2, .int t), (3, .int v), (4, .int w)]) C.1 C.2.1 dX0_newEvent_20 hl (k := 5) rfl (nI_1 i) (by decide) rfl (fun ls hl => ?_)
          refine lv_goto (tgt := 3) C.1 C.2.1 dX0_newEvent_23 (by decide) ?_
          exact ih (i + 1) (by omega) (by rw [hf, os_freeF, if_neg c17]) H locs hO hS ls (lv_sub hl [1, 2, 3, 4, 5, 0] rfl)
  refine lv_iconst (v := 0) C.1 C.2.1 dX0_newEvent_0 (by decide) ?_
  refine lv_istore (lv' := [(5, .int 0), (0, .ref h), (1, .int x), (2, .int t), (3, .int v), (4, .int w)]) C.1 C.2.1 dX0_newEvent_1 hl (by decide) rfl (fun ls hl => ?_)
  exact loop 95 0 rfl rfl s.heap [] hO hS ls (lv_sub hl [1, 2, 3, 4, 5, 0] rfl)
set_option maxHeartbeats 4000000 in
theorem mx_undo (l : Launch) (D : va_G) (cI cZ : ClassId) (h : Nat) (ad : Nat → Nat) (σ : os_St) (a : Nat) (ha : a < 96) (h7 : vp_in (σ 7 a) 4) (h18 : ¬ σ 12 a < 0 → vp_in (σ 18 0) 96) : os_MV l yX0_undo cX0_undo 2 (os_rm 0 0) (ox_A h ad) [.ref h, .int (nI a)] (ox_W D cI cZ h ad σ) (ox_W D cI cZ h ad (os_undo σ a)) := by
  refine ox_ev (by decide) rfl (Nat.le_of_ble_eq_true rfl) ?_
  intro pg e s m below meth c C hr hlk hO hS ls hl
  have hl : lv_has ls 2 [(0, .ref h), (1, .int (nI a))] := hl
  refine ox_g13 C hO (lv_at hl 0 rfl) dX0_undo_0 dX0_undo_1 ?_
  refine ox_g7 C hO (lv_at hl 0 rfl) dX0_undo_4 dX0_undo_5 ?_
  refine lv_iload_n C.1 C.2.1 dX0_undo_8 rfl (lv_at hl 1 rfl) ?_
  refine ox_l7 (j := a) C hO (nI_clamp (by omega)) (vp_in_nI (by omega) (by omega)) dX0_undo_9 ?_
  refine ox_g11 C hO (lv_at hl 0 rfl) dX0_undo_10 dX0_undo_11 ?_
  refine lv_iload_n C.1 C.2.1 dX0_undo_14 rfl (lv_at hl 1 rfl) ?_
  refine ox_l11 (j := a) C hO (nI_clamp (by omega)) (vp_in_nI (by omega) (by omega)) dX0_undo_15 ?_
  refine ox_s13 (j := os_ix (σ 7 a)) C hO hS rfl h7 dX0_undo_16 (fun H locs hO hS => ?_)
  refine ox_g10 C hO (lv_at hl 0 rfl) dX0_undo_17 dX0_undo_18 ?_
  refine lv_iload_n C.1 C.2.1 dX0_undo_21 rfl (lv_at hl 1 rfl) ?_
  refine lv_iconst (v := 0) C.1 C.2.1 dX0_undo_22 (by decide) ?_
  refine ox_s10 (j := a) C hO hS (nI_clamp (by omega)) (vp_in_nI (by omega) (by omega)) os_nz0 dX0_undo_23 (fun H locs hO hS => ?_)
  have hO : ox_P D cI cZ h ad (os_undo1 σ a) H := hO
  refine ox_g12 C hO (lv_at hl 0 rfl) dX0_undo_24 dX0_undo_25 ?_
  refine lv_iload_n C.1 C.2.1 dX0_undo_28 rfl (lv_at hl 1 rfl) ?_
  refine ox_l12 (j := a) C hO (nI_clamp (by omega)) (vp_in_nI (by omega) (by omega)) dX0_undo_29 ?_
  refine lv_if_lt (tgt := 65) C.1 C.2.1 dX0_undo_30 (by decide) (fun c30 => ?_) (fun c30 => ?_)
  · exact ox_rv C hO hS (by rw [os_undo, if_pos c30]) hr hlk dX0_undo_65
  · have h18' : vp_in ((os_undo1 σ a) 18 0) 96 := by rw [os_undo_18]; exact h18 (by rw [← os_undo_12 σ a]; exact c30)
    refine ox_g17 C hO (lv_at hl 0 rfl) dX0_undo_33 dX0_undo_34 ?_
    refine ox_g18 C hO (lv_at hl 0 rfl) dX0_undo_37 dX0_undo_38 ?_
    refine ox_g12 C hO (lv_at hl 0 rfl) dX0_undo_41 dX0_undo_42 ?_
    refine lv_iload_n C.1 C.2.1 dX0_undo_45 rfl (lv_at hl 1 rfl) ?_
    refine ox_l12 (j := a) C hO (nI_clamp (by omega)) (vp_in_nI (by omega) (by omega)) dX0_undo_46 ?_
    refine ox_s17 (j := os_ix ((os_undo1 σ a) 18 0)) C hO hS rfl h18' dX0_undo_47 (fun H locs hO hS => ?_)
    refine lv_aload_n C.1 C.2.1 dX0_undo_48 rfl (lv_at hl 0 rfl) ?_
    refine lv_dup C.1 C.2.1 dX0_undo_49 rfl ?_
    refine ox_f18 C hO dX0_undo_50 ?_
    refine lv_iconst (v := 1) C.1 C.2.1 dX0_undo_53 (by decide) ?_
    refine lv_iadd C.1 C.2.1 dX0_undo_54 ?_
    refine ox_p18 C hO hS dX0_undo_55 (fun H locs hO hS => ?_)
    refine ox_g12 C hO (lv_at hl 0 rfl) dX0_undo_58 dX0_undo_59 ?_
    refine lv_iload_n C.1 C.2.1 dX0_undo_62 rfl (lv_at hl 1 rfl) ?_
    refine lv_iconst (v := -1) C.1 C.2.1 dX0_undo_63 (by decide) ?_
    refine ox_s12 (j := a) C hO hS (nI_clamp (by omega)) (vp_in_nI (by omega) (by omega)) dX0_undo_64 (fun H locs hO hS => ?_)
    exact ox_rv C hO hS (by rw [os_undo, if_neg c30]; rfl) hr hlk dX0_undo_65
end
section
/-! walks of OptimisticSim (printed by gen/walk.py) -/
set_option maxRecDepth 100000
theorem os_badP_in {x : Int32} (h : os_badP x = false) : vp_in x 4 := by
  unfold os_badP at h
  simp only [Bool.or_eq_false_iff, decide_eq_false_iff_not] at h
  rw [vp_in_iff]
  have h1 := Int32.le_iff_toInt_le.mp (Int32.not_lt.mp h.1)
  have h2 := Int32.lt_iff_toInt_lt.mp (Int32.not_le.mp h.2)
  exact ⟨h1, h2⟩
set_option maxHeartbeats 4000000 in
theorem mx_goBack (l : Launch) (D : va_G) (cI cZ : ClassId) (h : Nat) (ad : Nat → Nat) (σ : os_St) (N a : Nat) (hbd : os_bd N σ) (ha : a < 96) : os_MV l yX0_goBack cX0_goBack 5 (os_rm 2 45) (ox_A h ad) [.ref h, .int (nI a)] (ox_W D cI cZ h ad σ) (ox_W D cI cZ h ad (os_goBack σ a)) := by
  refine ox_ev (by decide) rfl (Nat.le_of_ble_eq_true rfl) ?_
  intro pg e s m below meth c C hr hlk hO hS ls hl
  have hl : lv_has ls 5 [(0, .ref h), (1, .int (nI a))] := hl
  have h7 := hbd.2.1 a ha
  have loop : ∀ (n i : Nat) (τ : os_St) (ob : Option Nat), i + n = 96 → os_bd N τ → (∀ b, ob = some b → b < 96) → os_goBack σ a = os_goF (σ 7 a) a n τ ob → ∀ (H : Heap) (locs : List Loc), ox_P D cI cZ h ad (τ) H → va_S (ox_A h ad) s.heap H locs → ∀ ls : Array Slot, lv_has ls 5 [(0, .ref h), (1, .int (nI a)), (2, .int (σ 7 a)), (3, .int (os_enc ob)), (4, .int (nI i))] → W pg l e (os_rm 2 45) s m ([.ref h, .int (nI a)] : List Value).toArray below meth c H locs 0 0 (ox_QV below D cI cZ h ad (os_goBack σ a) ([.ref h, .int (nI a)] : List Value).toArray s) (F0 m 16 ls []) := by
    intro n
    induction n with
    | zero =>
      intro i τ ob hi hB hob hg H locs hO hS ls hl
      obtain rfl : i = 96 := by omega
      refine lv_iload C.1 C.2.1 dX0_goBack_16 (lv_at hl 4 rfl) ?_
      refine lv_bipush (v := 96) C.1 C.2.1 dX0_goBack_18 (by decide) ?_
      refine lv_icmp_ge (tgt := 58) C.1 C.2.1 dX0_goBack_20 (by decide) (fun c20 => ?_) (fun c20 => ?_)
      · have c20 := Int32.not_lt.mpr c20
        exact ox_rv C hO hS hg.symm hr hlk dX0_goBack_58
      · have c20 := Int32.not_le.mp c20
        exact absurd c20 (by decide)
    | succ n ih =>
      intro i τ ob hi hB hob hg H locs hO hS ls hl
      cases ob with
      | none =>
        refine lv_iload C.1 C.2.1 dX0_goBack_16 (lv_at hl 4 rfl) ?_
        refine lv_bipush (v := 96) C.1 C.2.1 dX0_goBack_18 (by decide) ?_
        refine lv_icmp_ge (tgt := 58) C.1 C.2.1 dX0_goBack_20 (by decide) (fun c20 => ?_) (fun c20 => ?_)
        · have c20 := Int32.not_lt.mpr c20
          exact absurd (nI_lt (a := i) (b := 96) (by omega) (by omega)) c20
        · have c20 := Int32.not_le.mp c20
          refine lv_iload_n C.1 C.2.1 dX0_goBack_23 rfl (lv_at hl 3 rfl) ?_
          refine lv_if_lt (tgt := 58) C.1 C.2.1 dX0_goBack_24 (by decide) (fun c24 => ?_) (fun c24 => ?_)
          · exact ox_rv C hO hS hg.symm hr hlk dX0_goBack_58
          · exact absurd os_m1neg c24
      | some b =>
        have hb := hob b rfl
        have hl : lv_has ls 5 [(0, .ref h), (1, .int (nI a)), (2, .int (σ 7 a)), (3, .int (nI b)), (4, .int (nI i))] := hl
        refine lv_iload C.1 C.2.1 dX0_goBack_16 (lv_at hl 4 rfl) ?_
        refine lv_bipush (v := 96) C.1 C.2.1 dX0_goBack_18 (by decide) ?_
        refine lv_icmp_ge (tgt := 58) C.1 C.2.1 dX0_goBack_20 (by decide) (fun c20 => ?_) (fun c20 => ?_)
        · have c20 := Int32.not_lt.mpr c20
          exact absurd (nI_lt (a := i) (b := 96) (by omega) (by omega)) c20
        · have c20 := Int32.not_le.mp c20
          refine lv_iload_n C.1 C.2.1 dX0_goBack_23 rfl (lv_at hl 3 rfl) ?_
          refine lv_if_lt (tgt := 58) C.1 C.2.1 dX0_goBack_24 (by decide) (fun c24 => ?_) (fun c24 => ?_)
          · exact absurd c24 (os_nneg (by omega))
          · refine lv_iload_n C.1 C.2.1 dX0_goBack_27 rfl (lv_at hl 3 rfl) ?_
            refine lv_iload_n C.1 C.2.1 dX0_goBack_28 rfl (lv_at hl 1 rfl) ?_
            refine lv_icmp_eq (tgt := 41) C.1 C.2.1 dX0_goBack_29 (by decide) (fun c29 => ?_) (fun c29 => ?_)
            · have hgo : b = a ∨ os_soon τ a b = true := Or.inl ((nI_eq (by omega) (by omega)).mp c29)
              rw [os_goF, if_pos hgo] at hg
              refine lv_aload_n C.1 C.2.1 dX0_goBack_41 rfl (lv_at hl 0 rfl) ?_
              refine lv_iload_n C.1 C.2.1 dX0_goBack_42 rfl (lv_at hl 3 rfl) ?_
              refine ox_cv (As := [.int (nI b)]) (rest := []) C (mx_undo l D cI cZ h ad τ b hb (hB.2.1 b hb) (fun q => bd_room hB hb q)) (cwV 1 C.2.2.2.2.1 (lw_V q128 q130 qs5 q23 q131) rfl rfl rfl (by decide +kernel) ⟨Nat.le_of_ble_eq_true rfl, Nat.le_of_ble_eq_true rfl⟩) hO hS rfl rfl hl.1 (Nat.le_of_ble_eq_true rfl) dX0_goBack_43 ⟨Nat.zero_le _, Nat.zero_le _⟩ (fun H locs hO hS => ?_)
              refine lv_aload_n C.1 C.2.1 dX0_goBack_46 rfl (lv_at hl 0 rfl) ?_
              refine lv_iload_n C.1 C.2.1 dX0_goBack_47 rfl (lv_at hl 2 rfl) ?_
              refine ox_ci (As := [.int (σ 7 a)]) (rest := []) C (mx_last l D cI cZ h ad (os_undo τ b) (σ 7 a)) (cwV 1 C.2.2.2.2.1 (lw_V q120 q122 qs3 q23 q123) rfl rfl rfl (by decide +kernel) ⟨Nat.le_of_ble_eq_true rfl, Nat.le_of_ble_eq_true rfl⟩) hO hS rfl rfl hl.1 (Nat.le_of_ble_eq_true rfl) dX0_goBack_48 ⟨Nat.zero_le _, Nat.zero_le _⟩ (fun H locs hO hS => ?_)
              refine lv_istore_n (lv' := [(3, .int (os_enc (os_last (os_undo τ b) (σ 7 a) 96))), (0, .ref h), (1, .int (nI a)), (2, .int (σ 7 a)), (4, .int (nI i))]) C.1 C.2.1 dX0_goBack_51 rfl hl (by decide) rfl (fun ls hl => ?_)
              refine lv_iinc (v := nI (i + 1)) (lv' := [(4, .int (nI (i + 1))), (3, .int (os_enc (os_last (os_undo τ b) (σ 7 a) 96))), (0, .ref h), (1, .int (nI a)), (2, .int (σ 7 a))]) C.1 C.2.1 dX0_goBack_52 hl (k := 4) rfl (nI_1 i) (by decide) rfl (fun ls hl => ?_)
              refine lv_goto (tgt := 16) C.1 C.2.1 dX0_goBack_55 (by decide) ?_
              exact ih (i + 1) (os_undo τ b) (os_last (os_undo τ b) (σ 7 a) 96) (by omega) (bd_undo hB hb) (fun _ q => os_best_lt q) hg H locs hO hS ls (lv_sub hl [2, 3, 4, 1, 0] rfl)
            · refine lv_aload_n C.1 C.2.1 dX0_goBack_32 rfl (lv_at hl 0 rfl) ?_
              refine lv_iload_n C.1 C.2.1 dX0_goBack_33 rfl (lv_at hl 1 rfl) ?_
              refine lv_iload_n C.1 C.2.1 dX0_goBack_34 rfl (lv_at hl 3 rfl) ?_
              refine ox_ci (As := [.int (nI a), .int (nI b)]) (rest := []) C (mx_sooner l D cI cZ h ad (τ) a b (by omega) (by omega)) (cwV 2 C.2.2.2.2.1 (lw_V q124 q126 qs4 q23 q127) rfl rfl rfl (by decide +kernel) ⟨Nat.le_of_ble_eq_true rfl, Nat.le_of_ble_eq_true rfl⟩) hO hS rfl rfl hl.1 (Nat.le_of_ble_eq_true rfl) dX0_goBack_35 ⟨Nat.zero_le _, Nat.zero_le _⟩ (fun H locs hO hS => ?_)
              refine lv_if_eq (tgt := 58) C.1 C.2.1 dX0_goBack_38 (by decide) (fun c38 => ?_) (fun c38 => ?_)
              · exact ox_rv C hO hS (by rw [hg, os_goF, if_neg (fun q => q.elim (fun q => c29 (by rw [q])) (fun q => by rw [os_bit_f c38] at q; cases q))]) hr hlk dX0_goBack_58
              · have hgo : b = a ∨ os_soon τ a b = true := Or.inr (os_bit_t c38)
                rw [os_goF, if_pos hgo] at hg
                refine lv_aload_n C.1 C.2.1 dX0_goBack_41 rfl (lv_at hl 0 rfl) ?_
                refine lv_iload_n C.1 C.2.1 dX0_goBack_42 rfl (lv_at hl 3 rfl) ?_
                refine ox_cv (As := [.int (nI b)]) (rest := []) C (mx_undo l D cI cZ h ad τ b hb (hB.2.1 b hb) (fun q => bd_room hB hb q)) (cwV 1 C.2.2.2.2.1 (lw_V q128 q130 qs5 q23 q131) rfl rfl rfl (by decide +kernel) ⟨Nat.le_of_ble_eq_true rfl, Nat.le_of_ble_eq_true rfl⟩) hO hS rfl rfl hl.1 (Nat.le_of_ble_eq_true rfl) dX0_goBack_43 ⟨Nat.zero_le _, Nat.zero_le _⟩ (fun H locs hO hS => ?_)
                refine lv_aload_n C.1 C.2.1 dX0_goBack_46 rfl (lv_at hl 0 rfl) ?_
                refine lv_iload_n C.1 C.2.1 dX0_goBack_47 rfl (lv_at hl 2 rfl) ?_
                refine ox_ci (As := [.int (σ 7 a)]) (rest := []) C (mx_last l D cI cZ h ad (os_undo τ b) (σ 7 a)) (cwV 1 C.2.2.2.2.1 (lw_V q120 q122 qs3 q23 q123) rfl rfl rfl (by decide +kernel) ⟨Nat.le_of_ble_eq_true rfl, Nat.le_of_ble_eq_true rfl⟩) hO hS rfl rfl hl.1 (Nat.le_of_ble_eq_true rfl) dX0_goBack_48 ⟨Nat.zero_le _, Nat.zero_le _⟩ (fun H locs hO hS => ?_)
                refine lv_istore_n (lv' := [(3, .int (os_enc (os_last (os_undo τ b) (σ 7 a) 96))), (0, .ref h), (1, .int (nI a)), (2, .int (σ 7 a)), (4, .int (nI i))]) C.1 C.2.1 dX0_goBack_51 rfl hl (by decide) rfl (fun ls hl => ?_)
                refine lv_iinc (v := nI (i + 1)) (lv' := [(4, .int (nI (i + 1))), (3, .int (os_enc (os_last (os_undo τ b) (σ 7 a) 96))), (0, .ref h), (1, .int (nI a)), (2, .int (σ 7 a))]) C.1 C.2.1 dX0_goBack_52 hl (k := 4) rfl (nI_1 i) (by decide) rfl (fun ls hl => ?_)
                refine lv_goto (tgt := 16) C.1 C.2.1 dX0_goBack_55 (by decide) ?_
                exact ih (i + 1) (os_undo τ b) (os_last (os_undo τ b) (σ 7 a) 96) (by omega) (bd_undo hB hb) (fun _ q => os_best_lt q) hg H locs hO hS ls (lv_sub hl [2, 3, 4, 1, 0] rfl)
  refine ox_g7 C hO (lv_at hl 0 rfl) dX0_goBack_0 dX0_goBack_1 ?_
  refine lv_iload_n C.1 C.2.1 dX0_goBack_4 rfl (lv_at hl 1 rfl) ?_
  refine ox_l7 (j := a) C hO (nI_clamp (by omega)) (vp_in_nI (by omega) (by omega)) dX0_goBack_5 ?_
  refine lv_istore_n (lv' := [(2, .int (σ 7 a)), (0, .ref h), (1, .int (nI a))]) C.1 C.2.1 dX0_goBack_6 rfl hl (by decide) rfl (fun ls hl => ?_)
  refine lv_aload_n C.1 C.2.1 dX0_goBack_7 rfl (lv_at hl 1 rfl) ?_
  refine lv_iload_n C.1 C.2.1 dX0_goBack_8 rfl (lv_at hl 0 rfl) ?_
  refine ox_ci (As := [.int (σ 7 a)]) (rest := []) C (mx_last l D cI cZ h ad σ (σ 7 a)) (cwV 1 C.2.2.2.2.1 (lw_V q120 q122 qs3 q23 q123) rfl rfl rfl (by decide +kernel) ⟨Nat.le_of_ble_eq_true rfl, Nat.le_of_ble_eq_true rfl⟩) hO hS rfl rfl hl.1 (Nat.le_of_ble_eq_true rfl) dX0_goBack_9 ⟨Nat.zero_le _, Nat.zero_le _⟩ (fun H locs hO hS => ?_)
  refine lv_istore_n (lv' := [(3, .int (os_enc (os_last σ (σ 7 a) 96))), (2, .int (σ 7 a)), (0, .ref h), (1, .int (nI a))]) C.1 C.2.1 dX0_goBack_12 rfl hl (by decide) rfl (fun ls hl => ?_)
  refine lv_iconst (v := 0) C.1 C.2.1 dX0_goBack_13 (by decide) ?_
  refine lv_istore (lv' := [(4, .int 0), (3, .int (os_enc (os_last σ (σ 7 a) 96))), (2, .int (σ 7 a)), (0, .ref h), (1, .int (nI a))]) C.1 C.2.1 dX0_goBack_14 hl (by decide) rfl (fun ls hl => ?_)
  exact loop 96 0 σ (os_last σ (σ 7 a) 96) rfl hbd (fun _ q => os_best_lt q) rfl H locs hO hS ls (lv_sub hl [3, 4, 2, 1, 0] rfl)
set_option maxHeartbeats 4000000 in
theorem mx_callBack (l : Launch) (D : va_G) (cI cZ : ClassId) (h : Nat) (ad : Nat → Nat) (σ : os_St) (hbd : os_bd 96 σ) : os_MV l yX0_callBack cX0_callBack 2 (os_rm 3 69) (ox_A h ad) [.ref h] (ox_W D cI cZ h ad σ) (ox_W D cI cZ h ad (os_callBack σ)) := by
  refine ox_ev (by decide) rfl (Nat.le_of_ble_eq_true rfl) ?_
  intro pg e s m below meth c C hr hlk hO hS ls hl
  have hl : lv_has ls 2 [(0, .ref h)] := hl
  have loop : ∀ (n N : Nat) (τ : os_St), os_bd N τ → N < n → os_callBack σ = os_cbF n τ → ∀ (H : Heap) (locs : List Loc), ox_P D cI cZ h ad (τ) H → va_S (ox_A h ad) s.heap H locs → ∀ ls : Array Slot, lv_has ls 2 [(0, .ref h)] → W pg l e (os_rm 3 69) s m ([.ref h] : List Value).toArray below meth c H locs 0 0 (ox_QV below D cI cZ h ad (os_callBack σ) ([.ref h] : List Value).toArray s) (F0 m 0 ls []) := by
    intro n
    induction n with
    | zero =>
      intro N τ hB hn
      exact absurd hn (by omega)
    | succ n ih =>
      intro N τ hB hn hg H locs hO hS ls hl
      refine ox_g18 C hO (lv_at hl 0 rfl) dX0_callBack_0 dX0_callBack_1 ?_
      refine lv_if_le (tgt := 51) C.1 C.2.1 dX0_callBack_4 (by decide) (fun c4 => ?_) (fun c4 => ?_)
      · have c4 := Int32.not_lt.mpr c4
        exact ox_rv C hO hS (by rw [hg, os_cbF, if_neg c4]) hr hlk dX0_callBack_51
      · have c4 := Int32.not_le.mp c4
        obtain ⟨N', rfl, hB2, hv, hw⟩ := bd_pop hB c4
        rw [os_cbF, if_pos c4] at hg
        refine lv_aload_n C.1 C.2.1 dX0_callBack_7 rfl (lv_at hl 0 rfl) ?_
        refine lv_dup C.1 C.2.1 dX0_callBack_8 rfl ?_
        refine ox_f18 C hO dX0_callBack_9 ?_
        refine lv_iconst (v := 1) C.1 C.2.1 dX0_callBack_12 (by decide) ?_
        refine lv_isub C.1 C.2.1 dX0_callBack_13 ?_
        refine ox_p18 C hO hS dX0_callBack_14 (fun H locs hO hS => ?_)
        have hO : ox_P D cI cZ h ad (os_pop τ) H := hO
        refine ox_g17 C hO (lv_at hl 0 rfl) dX0_callBack_17 dX0_callBack_18 ?_
        refine ox_g18 C hO (lv_at hl 0 rfl) dX0_callBack_21 dX0_callBack_22 ?_
        refine ox_l17 (j := os_ix ((os_pop τ) 18 0)) C hO rfl hv dX0_callBack_25 ?_
        have et : (os_pop τ) 17 (os_ix ((os_pop τ) 18 0)) = nI (os_top τ) := os_vpe hw (by omega)
        have ht96 : os_top τ < 96 := os_vpn hw
        rw [et]
        refine lv_istore_n (lv' := [(1, .int (nI (os_top τ))), (0, .ref h)]) C.1 C.2.1 dX0_callBack_26 rfl hl (by decide) rfl (fun ls hl => ?_)
        refine ox_g10 C hO (lv_at hl 1 rfl) dX0_callBack_27 dX0_callBack_28 ?_
        refine lv_iload_n C.1 C.2.1 dX0_callBack_31 rfl (lv_at hl 0 rfl) ?_
        refine ox_l10 (j := os_top τ) C hO (nI_clamp (by omega)) (vp_in_nI (by omega) (by omega)) dX0_callBack_32 ?_
        refine lv_if_eq (tgt := 41) C.1 C.2.1 dX0_callBack_33 (by decide) (fun c33 => ?_) (fun c33 => ?_)
        · have ec : os_cb1 τ = os_pop τ := by rw [os_cb1, if_pos c33]
          rw [← ec] at hO
          refine ox_g5 C hO (lv_at hl 1 rfl) dX0_callBack_41 dX0_callBack_42 ?_
          refine lv_iload_n C.1 C.2.1 dX0_callBack_45 rfl (lv_at hl 0 rfl) ?_
          refine lv_iconst (v := 0) C.1 C.2.1 dX0_callBack_46 (by decide) ?_
          refine ox_s5 (j := os_top τ) C hO hS (nI_clamp (by omega)) (vp_in_nI (by omega) (by omega)) os_nz0 dX0_callBack_47 (fun H locs hO hS => ?_)
          refine lv_goto (tgt := 0) C.1 C.2.1 dX0_callBack_48 (by decide) ?_
          exact ih N' _ (bd_set5 (bd_cb1 hB2) (os_top τ) 0) (by omega) hg H locs hO hS ls (lv_sub hl [1] rfl)
        · refine lv_aload_n C.1 C.2.1 dX0_callBack_36 rfl (lv_at hl 1 rfl) ?_
          refine lv_iload_n C.1 C.2.1 dX0_callBack_37 rfl (lv_at hl 0 rfl) ?_
          refine ox_cv (As := [.int (nI (os_top τ))]) (rest := []) C (mx_goBack l D cI cZ h ad (os_pop τ) N' (os_top τ) hB2 ht96) (cwV 1 C.2.2.2.2.1 (lw_V q116 q118 qs2 q23 q119) rfl rfl rfl (by decide +kernel) ⟨Nat.le_of_ble_eq_true rfl, Nat.le_of_ble_eq_true rfl⟩) hO hS rfl rfl hl.1 (Nat.le_of_ble_eq_true rfl) dX0_callBack_38 ⟨Nat.zero_le _, Nat.zero_le _⟩ (fun H locs hO hS => ?_)
          have ec : os_cb1 τ = os_goBack (os_pop τ) (os_top τ) := by rw [os_cb1, if_neg c33]
          rw [← ec] at hO
          refine ox_g5 C hO (lv_at hl 1 rfl) dX0_callBack_41 dX0_callBack_42 ?_
          refine lv_iload_n C.1 C.2.1 dX0_callBack_45 rfl (lv_at hl 0 rfl) ?_
          refine lv_iconst (v := 0) C.1 C.2.1 dX0_callBack_46 (by decide) ?_
          refine ox_s5 (j := os_top τ) C hO hS (nI_clamp (by omega)) (vp_in_nI (by omega) (by omega)) os_nz0 dX0_callBack_47 (fun H locs hO hS => ?_)
          refine lv_goto (tgt := 0) C.1 C.2.1 dX0_callBack_48 (by decide) ?_
          exact ih N' _ (bd_set5 (bd_cb1 hB2) (os_top τ) 0) (by omega) hg H locs hO hS ls (lv_sub hl [1] rfl)
  exact loop 97 96 σ hbd (by omega) rfl s.heap [] hO hS ls hl
set_option maxHeartbeats 4000000 in
theorem mx_arrive (l : Launch) (D : va_G) (cI cZ : ClassId) (h : Nat) (ad : Nat → Nat) (σ : os_St) (a : Nat) (hbd : os_bd 96 σ) (ha : a < 96) : os_MV l yX0_arrive cX0_arrive 2 (os_rm 4 90) (ox_A h ad) [.ref h, .int (nI a)] (ox_W D cI cZ h ad σ) (ox_W D cI cZ h ad (os_arrive σ a)) := by
  refine ox_ev (by decide) rfl (Nat.le_of_ble_eq_true rfl) ?_
  intro pg e s m below meth c C hr hlk hO hS ls hl
  have hl : lv_has ls 2 [(0, .ref h), (1, .int (nI a))] := hl
  refine lv_aload_n C.1 C.2.1 dX0_arrive_0 rfl (lv_at hl 0 rfl) ?_
  refine lv_iload_n C.1 C.2.1 dX0_arrive_1 rfl (lv_at hl 1 rfl) ?_
  refine ox_cv (As := [.int (nI a)]) (rest := []) C (mx_goBack l D cI cZ h ad σ 96 a hbd ha) (cwV 1 C.2.2.2.2.1 (lw_V q116 q118 qs2 q23 q119) rfl rfl rfl (by decide +kernel) ⟨Nat.le_of_ble_eq_true rfl, Nat.le_of_ble_eq_true rfl⟩) hO hS rfl rfl hl.1 (Nat.le_of_ble_eq_true rfl) dX0_arrive_2 ⟨Nat.zero_le _, Nat.zero_le _⟩ (fun H locs hO hS => ?_)
  refine lv_aload_n C.1 C.2.1 dX0_arrive_5 rfl (lv_at hl 0 rfl) ?_
  refine ox_cv (As := []) (rest := []) C (mx_callBack l D cI cZ h ad (os_goBack σ a) (bd_goBack hbd)) (cwV 0 C.2.2.2.2.1 (lw_V q132 q134 qs6 q23 q135) rfl rfl rfl (by decide +kernel) ⟨Nat.le_of_ble_eq_true rfl, Nat.le_of_ble_eq_true rfl⟩) hO hS rfl rfl hl.1 (Nat.le_of_ble_eq_true rfl) dX0_arrive_6 ⟨Nat.zero_le _, Nat.zero_le _⟩ (fun H locs hO hS => ?_)
  exact ox_rv C hO hS rfl hr hlk dX0_arrive_9
set_option maxHeartbeats 4000000 in
theorem mx_handle (l : Launch) (D : va_G) (cI cZ : ClassId) (h : Nat) (ad : Nat → Nat) (σ : os_St) (a : Nat) (hbd : os_bd 96 σ) (h0 : σ 18 0 = 0) (ha : a < 96) : os_MV l yX0_handle cX0_handle 4 (os_rm 5 111) (ox_A h ad) [.ref h, .int (nI a)] (ox_W D cI cZ h ad σ) (ox_W D cI cZ h ad (os_handle σ a)) := by
  refine ox_ev (by decide) rfl (Nat.le_of_ble_eq_true rfl) ?_
  intro pg e s m below meth c C hr hlk hO hS ls hl
  have hl : lv_has ls 4 [(0, .ref h), (1, .int (nI a))] := hl
  have h7 := hbd.2.1 a ha
  have hp4 : os_ix (σ 7 a) < 4 := os_vpn h7
  have h3 := bd_hd3 hbd a (os_ix (σ 7 a))
  have h30 : (os_hd3 σ a (os_ix (σ 7 a))) 18 0 = 0 := by rw [os_hd3_k (by decide) (by decide) (by decide)]; exact h0
  have e7 : ∀ k, k ≠ 10 → k ≠ 11 → k ≠ 13 → (os_hd3 σ a (os_ix (σ 7 a))) k = σ k := fun k h1 h2 h4 => os_hd3_k h1 h2 h4
  refine ox_g7 C hO (lv_at hl 0 rfl) dX0_handle_0 dX0_handle_1 ?_
  refine lv_iload_n C.1 C.2.1 dX0_handle_4 rfl (lv_at hl 1 rfl) ?_
  refine ox_l7 (j := a) C hO (nI_clamp (by omega)) (vp_in_nI (by omega) (by omega)) dX0_handle_5 ?_
  refine lv_istore_n (lv' := [(2, .int (σ 7 a)), (0, .ref h), (1, .int (nI a))]) C.1 C.2.1 dX0_handle_6 rfl hl (by decide) rfl (fun ls hl => ?_)
  refine ox_g11 C hO (lv_at hl 1 rfl) dX0_handle_7 dX0_handle_8 ?_
  refine lv_iload_n C.1 C.2.1 dX0_handle_11 rfl (lv_at hl 2 rfl) ?_
  refine ox_g13 C hO (lv_at hl 1 rfl) dX0_handle_12 dX0_handle_13 ?_
  refine lv_iload_n C.1 C.2.1 dX0_handle_16 rfl (lv_at hl 0 rfl) ?_
  refine ox_l13 (j := os_ix (σ 7 a)) C hO rfl h7 dX0_handle_17 ?_
  refine ox_s11 (j := a) C hO hS (nI_clamp (by omega)) (vp_in_nI (by omega) (by omega)) dX0_handle_18 (fun H locs hO hS => ?_)
  have hO : ox_P D cI cZ h ad (os_hd1 σ a (os_ix (σ 7 a))) H := hO
  refine ox_g13 C hO (lv_at hl 1 rfl) dX0_handle_19 dX0_handle_20 ?_
  refine lv_iload_n C.1 C.2.1 dX0_handle_23 rfl (lv_at hl 0 rfl) ?_
  refine ox_g13 C hO (lv_at hl 1 rfl) dX0_handle_24 dX0_handle_25 ?_
  refine lv_iload_n C.1 C.2.1 dX0_handle_28 rfl (lv_at hl 0 rfl) ?_
  refine ox_l13 (j := os_ix (σ 7 a)) C hO rfl h7 dX0_handle_29 ?_
  refine lv_iconst (v := 5) C.1 C.2.1 dX0_handle_30 (by decide) ?_
  refine lv_imul C.1 C.2.1 dX0_handle_31 ?_
  refine ox_g8 C hO (lv_at hl 1 rfl) dX0_handle_32 dX0_handle_33 ?_
  refine lv_iload_n C.1 C.2.1 dX0_handle_36 rfl (lv_at hl 2 rfl) ?_
  refine ox_l8 (j := a) C hO (nI_clamp (by omega)) (vp_in_nI (by omega) (by omega)) dX0_handle_37 ?_
  refine lv_iadd C.1 C.2.1 dX0_handle_38 ?_
  refine lv_iconst (v := 1) C.1 C.2.1 dX0_handle_39 (by decide) ?_
  refine lv_iadd C.1 C.2.1 dX0_handle_40 ?_
  refine ox_s13 (j := os_ix (σ 7 a)) C hO hS rfl h7 dX0_handle_41 (fun H locs hO hS => ?_)
  have hO : ox_P D cI cZ h ad (os_hd2 σ a (os_ix (σ 7 a))) H := hO
  refine ox_g10 C hO (lv_at hl 1 rfl) dX0_handle_42 dX0_handle_43 ?_
  refine lv_iload_n C.1 C.2.1 dX0_handle_46 rfl (lv_at hl 2 rfl) ?_
  refine lv_iconst (v := 1) C.1 C.2.1 dX0_handle_47 (by decide) ?_
  refine ox_s10 (j := a) C hO hS (nI_clamp (by omega)) (vp_in_nI (by omega) (by omega)) os_nz1 dX0_handle_48 (fun H locs hO hS => ?_)
  have hO : ox_P D cI cZ h ad (os_hd3 σ a (os_ix (σ 7 a))) H := hO
  refine ox_g9 C hO (lv_at hl 1 rfl) dX0_handle_49 dX0_handle_50 ?_
  refine lv_iload_n C.1 C.2.1 dX0_handle_53 rfl (lv_at hl 2 rfl) ?_
  refine ox_l9 (j := a) C hO (nI_clamp (by omega)) (vp_in_nI (by omega) (by omega)) dX0_handle_54 ?_
  refine lv_if_le (tgt := 129) C.1 C.2.1 dX0_handle_55 (by decide) (fun c55 => ?_) (fun c55 => ?_)
  · have c55 := Int32.not_lt.mpr c55
    exact ox_rv C hO hS (by rw [os_handle, if_neg (fun q => c55 q.1)]) hr hlk dX0_handle_129
  · have c55 := Int32.not_le.mp c55
    refine ox_g13 C hO (lv_at hl 1 rfl) dX0_handle_58 dX0_handle_59 ?_
    refine lv_iload_n C.1 C.2.1 dX0_handle_62 rfl (lv_at hl 0 rfl) ?_
    refine ox_l13 (j := os_ix (σ 7 a)) C hO rfl h7 dX0_handle_63 ?_
    refine ox_g2 C hO (lv_at hl 1 rfl) dX0_handle_64 dX0_handle_65 ?_
    refine lv_iload_n C.1 C.2.1 dX0_handle_68 rfl (lv_at hl 0 rfl) ?_
    refine ox_l2 (j := os_ix (σ 7 a)) C hO rfl h7 dX0_handle_69 ?_
    refine lv_iand C.1 C.2.1 dX0_handle_70 ?_
    refine lv_if_ne (tgt := 129) C.1 C.2.1 dX0_handle_71 (by decide) (fun c71 => ?_) (fun c71 => ?_)
    · exact ox_rv C hO hS (by rw [os_handle, if_neg (fun q => c71 q.2)]) hr hlk dX0_handle_129
    · refine lv_aload_n C.1 C.2.1 dX0_handle_74 rfl (lv_at hl 1 rfl) ?_
      refine ox_g0 C hO (lv_at hl 1 rfl) dX0_handle_75 dX0_handle_76 ?_
      refine lv_iload_n C.1 C.2.1 dX0_handle_79 rfl (lv_at hl 0 rfl) ?_
      refine ox_l0 (j := os_ix (σ 7 a)) C hO rfl h7 dX0_handle_80 ?_
      refine ox_g6 C hO (lv_at hl 1 rfl) dX0_handle_81 dX0_handle_82 ?_
      refine lv_iload_n C.1 C.2.1 dX0_handle_85 rfl (lv_at hl 2 rfl) ?_
      refine ox_l6 (j := a) C hO (nI_clamp (by omega)) (vp_in_nI (by omega) (by omega)) dX0_handle_86 ?_
      refine ox_g1 C hO (lv_at hl 1 rfl) dX0_handle_87 dX0_handle_88 ?_
      refine lv_iload_n C.1 C.2.1 dX0_handle_91 rfl (lv_at hl 0 rfl) ?_
      refine ox_l1 (j := os_ix (σ 7 a)) C hO rfl h7 dX0_handle_92 ?_
      refine lv_iadd C.1 C.2.1 dX0_handle_93 ?_
      refine ox_g13 C hO (lv_at hl 1 rfl) dX0_handle_94 dX0_handle_95 ?_
      refine lv_iload_n C.1 C.2.1 dX0_handle_98 rfl (lv_at hl 0 rfl) ?_
      refine ox_l13 (j := os_ix (σ 7 a)) C hO rfl h7 dX0_handle_99 ?_
      refine lv_iconst (v := 2) C.1 C.2.1 dX0_handle_100 (by decide) ?_
      refine lv_ishr C.1 C.2.1 dX0_handle_101 ?_
      refine lv_bipush (v := 15) C.1 C.2.1 dX0_handle_102 (by decide) ?_
      refine lv_iand C.1 C.2.1 dX0_handle_104 ?_
      refine ox_g9 C hO (lv_at hl 1 rfl) dX0_handle_105 dX0_handle_106 ?_
      refine lv_iload_n C.1 C.2.1 dX0_handle_109 rfl (lv_at hl 2 rfl) ?_
      refine ox_l9 (j := a) C hO (nI_clamp (by omega)) (vp_in_nI (by omega) (by omega)) dX0_handle_110 ?_
      refine lv_iconst (v := 1) C.1 C.2.1 dX0_handle_111 (by decide) ?_
      refine lv_isub C.1 C.2.1 dX0_handle_112 ?_
      refine ox_ci (As := [.int ((os_hd3 σ a (os_ix (σ 7 a))) 0 (os_ix (σ 7 a))), .int (((os_hd3 σ a (os_ix (σ 7 a))) 6 a) + ((os_hd3 σ a (os_ix (σ 7 a))) 1 (os_ix (σ 7 a)))), .int ((((os_hd3 σ a (os_ix (σ 7 a))) 13 (os_ix (σ 7 a))) >>> ((2 : Int32) &&& 31)) &&& 15), .int (((os_hd3 σ a (os_ix (σ 7 a))) 9 a) - 1)]) (rest := []) C (mx_new l D cI cZ h ad (os_hd3 σ a (os_ix (σ 7 a))) ((os_hd3 σ a (os_ix (σ 7 a))) 0 (os_ix (σ 7 a))) (((os_hd3 σ a (os_ix (σ 7 a))) 6 a) + ((os_hd3 σ a (os_ix (σ 7 a))) 1 (os_ix (σ 7 a)))) ((((os_hd3 σ a (os_ix (σ 7 a))) 13 (os_ix (σ 7 a))) >>> ((2 : Int32) &&& 31)) &&& 15) (((os_hd3 σ a (os_ix (σ 7 a))) 9 a) - 1)) (cwV 4 C.2.2.2.2.1 (lw_V q108 q110 qs0 q23 q111) rfl rfl rfl (by decide +kernel) ⟨Nat.le_of_ble_eq_true rfl, Nat.le_of_ble_eq_true rfl⟩) hO hS rfl rfl hl.1 (Nat.le_of_ble_eq_true rfl) dX0_handle_113 ⟨Nat.zero_le _, Nat.zero_le _⟩ (fun H locs hO hS => ?_)
      have hO : ox_P D cI cZ h ad (os_child (os_hd3 σ a (os_ix (σ 7 a))) a (os_ix (σ 7 a))) H := hO
      refine lv_istore_n (lv' := [(3, .int (nI (os_free (os_hd3 σ a (os_ix (σ 7 a)))))), (2, .int (σ 7 a)), (0, .ref h), (1, .int (nI a))]) C.1 C.2.1 dX0_handle_116 rfl hl (by decide) rfl (fun ls hl => ?_)
      refine ox_g12 C hO (lv_at hl 2 rfl) dX0_handle_117 dX0_handle_118 ?_
      refine lv_iload_n C.1 C.2.1 dX0_handle_121 rfl (lv_at hl 3 rfl) ?_
      refine lv_iload_n C.1 C.2.1 dX0_handle_122 rfl (lv_at hl 0 rfl) ?_
      refine ox_s12 (j := a) C hO hS (nI_clamp (by omega)) (vp_in_nI (by omega) (by omega)) dX0_handle_123 (fun H locs hO hS => ?_)
      refine lv_aload_n C.1 C.2.1 dX0_handle_124 rfl (lv_at hl 2 rfl) ?_
      refine lv_iload_n C.1 C.2.1 dX0_handle_125 rfl (lv_at hl 0 rfl) ?_
      have hn := bd_new h3 h30 (e := os_free (os_hd3 σ a (os_ix (σ 7 a)))) (p := (os_hd3 σ a (os_ix (σ 7 a))) 0 (os_ix (σ 7 a))) (t := (os_hd3 σ a (os_ix (σ 7 a))) 6 a + (os_hd3 σ a (os_ix (σ 7 a))) 1 (os_ix (σ 7 a))) (v := ((os_hd3 σ a (os_ix (σ 7 a))) 13 (os_ix (σ 7 a)) >>> ((2 : Int32) &&& 31)) &&& 15) (l := (os_hd3 σ a (os_ix (σ 7 a))) 9 a - 1) (h3.2.2.2.2.1 _ hp4)
      have hbA : os_bd 96 (os_set (os_child (os_hd3 σ a (os_ix (σ 7 a))) a (os_ix (σ 7 a))) 12 a (nI (os_free (os_hd3 σ a (os_ix (σ 7 a)))))) := (bd_sent hn.1 hn.2 (os_free_96 _)).1
      refine ox_cv (As := [.int (nI (os_free (os_hd3 σ a (os_ix (σ 7 a)))))]) (rest := []) C (mx_arrive l D cI cZ h ad (os_set (os_child (os_hd3 σ a (os_ix (σ 7 a))) a (os_ix (σ 7 a))) 12 a (nI (os_free (os_hd3 σ a (os_ix (σ 7 a)))))) (os_free (os_hd3 σ a (os_ix (σ 7 a)))) hbA (os_free_96 _)) (cwV 1 C.2.2.2.2.1 (lw_V q112 q114 qs1 q23 q115) rfl rfl rfl (by decide +kernel) ⟨Nat.le_of_ble_eq_true rfl, Nat.le_of_ble_eq_true rfl⟩) hO hS rfl rfl hl.1 (Nat.le_of_ble_eq_true rfl) dX0_handle_126 ⟨Nat.zero_le _, Nat.zero_le _⟩ (fun H locs hO hS => ?_)
      exact ox_rv C hO hS (by rw [os_handle, if_pos ⟨c55, c71⟩]; rfl) hr hlk dX0_handle_129
set_option maxHeartbeats 4000000 in
theorem mx_rule (l : Launch) (D : va_G) (cI cZ : ClassId) (h : Nat) (ad : Nat → Nat) (σ : os_St) (x t d k : Int32) : os_MI l yX0_rule cX0_rule 5 .int (os_rm 1 20) (ox_A h ad) [.ref h, .int x, .int t, .int d, .int k] (ox_W D cI cZ h ad σ) (ox_W D cI cZ h ad ((os_rule σ x t d k).2)) ((os_rule σ x t d k).1) := by
  refine ox_ei (by decide) rfl (Nat.le_of_ble_eq_true rfl) ?_
  intro pg e s m below meth c C hr hlk hO hS ls hl
  have hl : lv_has ls 5 [(0, .ref h), (1, .int x), (2, .int t), (3, .int d), (4, .int k)] := hl
  refine lv_iload_n C.1 C.2.1 dX0_rule_0 rfl (lv_at hl 1 rfl) ?_
  refine ox_cs (As := [.int x]) (rest := []) C (mx_badP l D cI cZ h ad σ x) (va_cwS 1 C.2.2.2.2.1 (lw_S q101 q102 q23 q103) rfl rfl rfl (by decide +kernel) ⟨Nat.le_of_ble_eq_true rfl, Nat.le_of_ble_eq_true rfl⟩) hO hS rfl rfl hl.1 (Nat.le_of_ble_eq_true rfl) dX0_rule_1 ⟨Nat.zero_le _, Nat.zero_le _⟩ (fun H locs hO hS => ?_)
  refine lv_if_ne (tgt := 14) C.1 C.2.1 dX0_rule_4 (by decide) (fun c4 => ?_) (fun c4 => ?_)
  · refine lv_iconst (v := -1) C.1 C.2.1 dX0_rule_14 (by decide) ?_
    exact ox_ri C hO hS (by rw [os_rule, if_pos (Or.inl (os_bit_t c4))]) (by rw [os_rule, if_pos (Or.inl (os_bit_t c4))]) hr hlk dX0_rule_15
  · refine lv_iload_n C.1 C.2.1 dX0_rule_7 rfl (lv_at hl 2 rfl) ?_
    refine ox_cs (As := [.int t]) (rest := []) C (mx_badP l D cI cZ h ad σ t) (va_cwS 1 C.2.2.2.2.1 (lw_S q101 q102 q23 q103) rfl rfl rfl (by decide +kernel) ⟨Nat.le_of_ble_eq_true rfl, Nat.le_of_ble_eq_true rfl⟩) hO hS rfl rfl hl.1 (Nat.le_of_ble_eq_true rfl) dX0_rule_8 ⟨Nat.zero_le _, Nat.zero_le _⟩ (fun H locs hO hS => ?_)
    refine lv_if_eq (tgt := 16) C.1 C.2.1 dX0_rule_11 (by decide) (fun c11 => ?_) (fun c11 => ?_)
    · refine lv_iload_n C.1 C.2.1 dX0_rule_16 rfl (lv_at hl 3 rfl) ?_
      refine lv_iconst (v := 1) C.1 C.2.1 dX0_rule_17 (by decide) ?_
      refine lv_icmp_lt (tgt := 39) C.1 C.2.1 dX0_rule_18 (by decide) (fun c18 => ?_) (fun c18 => ?_)
      · refine lv_bipush (v := -2) C.1 C.2.1 dX0_rule_39 (by decide) ?_
        exact ox_ri C hO hS (by rw [os_rule, if_neg (fun q => q.elim (fun q => by rw [os_bit_f c4] at q; cases q) (fun q => by rw [os_bit_f c11] at q; cases q)), if_pos (Or.inl c18)]) (by rw [os_rule, if_neg (fun q => q.elim (fun q => by rw [os_bit_f c4] at q; cases q) (fun q => by rw [os_bit_f c11] at q; cases q)), if_pos (Or.inl c18)]) hr hlk dX0_rule_41
      · refine lv_iload_n C.1 C.2.1 dX0_rule_21 rfl (lv_at hl 3 rfl) ?_
        refine lv_bipush (v := 9) C.1 C.2.1 dX0_rule_22 (by decide) ?_
        refine lv_icmp_gt (tgt := 39) C.1 C.2.1 dX0_rule_24 (by decide) (fun c24 => ?_) (fun c24 => ?_)
        · refine lv_bipush (v := -2) C.1 C.2.1 dX0_rule_39 (by decide) ?_
          exact ox_ri C hO hS (by rw [os_rule, if_neg (fun q => q.elim (fun q => by rw [os_bit_f c4] at q; cases q) (fun q => by rw [os_bit_f c11] at q; cases q)), if_pos (Or.inr (Or.inl c24))]) (by rw [os_rule, if_neg (fun q => q.elim (fun q => by rw [os_bit_f c4] at q; cases q) (fun q => by rw [os_bit_f c11] at q; cases q)), if_pos (Or.inr (Or.inl c24))]) hr hlk dX0_rule_41
        · refine lv_iload C.1 C.2.1 dX0_rule_27 (lv_at hl 4 rfl) ?_
          refine lv_if_lt (tgt := 39) C.1 C.2.1 dX0_rule_29 (by decide) (fun c29 => ?_) (fun c29 => ?_)
          · refine lv_bipush (v := -2) C.1 C.2.1 dX0_rule_39 (by decide) ?_
            exact ox_ri C hO hS (by rw [os_rule, if_neg (fun q => q.elim (fun q => by rw [os_bit_f c4] at q; cases q) (fun q => by rw [os_bit_f c11] at q; cases q)), if_pos (Or.inr (Or.inr (Or.inl c29)))]) (by rw [os_rule, if_neg (fun q => q.elim (fun q => by rw [os_bit_f c4] at q; cases q) (fun q => by rw [os_bit_f c11] at q; cases q)), if_pos (Or.inr (Or.inr (Or.inl c29)))]) hr hlk dX0_rule_41
          · refine lv_iload C.1 C.2.1 dX0_rule_32 (lv_at hl 4 rfl) ?_
            refine lv_bipush (v := 15) C.1 C.2.1 dX0_rule_34 (by decide) ?_
            refine lv_icmp_le (tgt := 42) C.1 C.2.1 dX0_rule_36 (by decide) (fun c36 => ?_) (fun c36 => ?_)
            · have c36 := Int32.not_lt.mpr c36
              refine ox_g3 C hO (lv_at hl 0 rfl) dX0_rule_42 dX0_rule_43 ?_
              refine lv_if_le (tgt := 52) C.1 C.2.1 dX0_rule_46 (by decide) (fun c46 => ?_) (fun c46 => ?_)
              · have c46 := Int32.not_lt.mpr c46
                have hx : vp_in x 4 := os_badP_in (os_bit_f c4)
                have er : os_rule σ x t d k = (0, os_set (os_set (os_set σ 0 (os_ix x) t) 1 (os_ix x) d) 2 (os_ix x) k) := by
                  rw [os_rule, if_neg (fun q => q.elim (fun q => by rw [os_bit_f c4] at q; cases q) (fun q => by rw [os_bit_f c11] at q; cases q)), if_neg (fun q => q.elim c18 (fun q => q.elim c24 (fun q => q.elim c29 c36))), if_neg c46]
                refine ox_g0 C hO (lv_at hl 0 rfl) dX0_rule_52 dX0_rule_53 ?_
                refine lv_iload_n C.1 C.2.1 dX0_rule_56 rfl (lv_at hl 1 rfl) ?_
                refine lv_iload_n C.1 C.2.1 dX0_rule_57 rfl (lv_at hl 2 rfl) ?_
                refine ox_s0 (j := os_ix x) C hO hS rfl hx dX0_rule_58 (fun H locs hO hS => ?_)
                refine ox_g1 C hO (lv_at hl 0 rfl) dX0_rule_59 dX0_rule_60 ?_
                refine lv_iload_n C.1 C.2.1 dX0_rule_63 rfl (lv_at hl 1 rfl) ?_
                refine lv_iload_n C.1 C.2.1 dX0_rule_64 rfl (lv_at hl 3 rfl) ?_
                refine ox_s1 (j := os_ix x) C hO hS rfl hx dX0_rule_65 (fun H locs hO hS => ?_)
                refine ox_g2 C hO (lv_at hl 0 rfl) dX0_rule_66 dX0_rule_67 ?_
                refine lv_iload_n C.1 C.2.1 dX0_rule_70 rfl (lv_at hl 1 rfl) ?_
                refine lv_iload C.1 C.2.1 dX0_rule_71 (lv_at hl 4 rfl) ?_
                refine ox_s2 (j := os_ix x) C hO hS rfl hx dX0_rule_73 (fun H locs hO hS => ?_)
                refine lv_iconst (v := 0) C.1 C.2.1 dX0_rule_74 (by decide) ?_
                exact ox_ri C hO hS (by rw [er]) (by rw [er]) hr hlk dX0_rule_75
              · have c46 := Int32.not_le.mp c46
                refine lv_bipush (v := -5) C.1 C.2.1 dX0_rule_49 (by decide) ?_
                exact ox_ri C hO hS (by rw [os_rule, if_neg (fun q => q.elim (fun q => by rw [os_bit_f c4] at q; cases q) (fun q => by rw [os_bit_f c11] at q; cases q)), if_neg (fun q => q.elim c18 (fun q => q.elim c24 (fun q => q.elim c29 c36))), if_pos c46]) (by rw [os_rule, if_neg (fun q => q.elim (fun q => by rw [os_bit_f c4] at q; cases q) (fun q => by rw [os_bit_f c11] at q; cases q)), if_neg (fun q => q.elim c18 (fun q => q.elim c24 (fun q => q.elim c29 c36))), if_pos c46]) hr hlk dX0_rule_51
            · have c36 := Int32.not_le.mp c36
              refine lv_bipush (v := -2) C.1 C.2.1 dX0_rule_39 (by decide) ?_
              exact ox_ri C hO hS (by rw [os_rule, if_neg (fun q => q.elim (fun q => by rw [os_bit_f c4] at q; cases q) (fun q => by rw [os_bit_f c11] at q; cases q)), if_pos (Or.inr (Or.inr (Or.inr c36)))]) (by rw [os_rule, if_neg (fun q => q.elim (fun q => by rw [os_bit_f c4] at q; cases q) (fun q => by rw [os_bit_f c11] at q; cases q)), if_pos (Or.inr (Or.inr (Or.inr c36)))]) hr hlk dX0_rule_41
    · refine lv_iconst (v := -1) C.1 C.2.1 dX0_rule_14 (by decide) ?_
      exact ox_ri C hO hS (by rw [os_rule, if_pos (Or.inr (os_bit_t c11))]) (by rw [os_rule, if_pos (Or.inr (os_bit_t c11))]) hr hlk dX0_rule_15
set_option maxHeartbeats 4000000 in
theorem mx_inject (l : Launch) (D : va_G) (cI cZ : ClassId) (h : Nat) (ad : Nat → Nat) (σ : os_St) (x t w : Int32) (hbd : os_bd 96 σ) (h0 : σ 18 0 = 0) : os_MI l yX0_inject cX0_inject 5 .int (os_rm 5 111) (ox_A h ad) [.ref h, .int x, .int t, .int w] (ox_W D cI cZ h ad σ) (ox_W D cI cZ h ad ((os_inject σ x t w).2)) ((os_inject σ x t w).1) := by
  refine ox_ei (by decide) rfl (Nat.le_of_ble_eq_true rfl) ?_
  intro pg e s m below meth c C hr hlk hO hS ls hl
  have hl : lv_has ls 5 [(0, .ref h), (1, .int x), (2, .int t), (3, .int w)] := hl
  refine lv_iload_n C.1 C.2.1 dX0_inject_0 rfl (lv_at hl 1 rfl) ?_
  refine ox_cs (As := [.int x]) (rest := []) C (mx_badP l D cI cZ h ad σ x) (va_cwS 1 C.2.2.2.2.1 (lw_S q101 q102 q23 q103) rfl rfl rfl (by decide +kernel) ⟨Nat.le_of_ble_eq_true rfl, Nat.le_of_ble_eq_true rfl⟩) hO hS rfl rfl hl.1 (Nat.le_of_ble_eq_true rfl) dX0_inject_1 ⟨Nat.zero_le _, Nat.zero_le _⟩ (fun H locs hO hS => ?_)
  refine lv_if_eq (tgt := 9) C.1 C.2.1 dX0_inject_4 (by decide) (fun c4 => ?_) (fun c4 => ?_)
  · refine lv_iload_n C.1 C.2.1 dX0_inject_9 rfl (lv_at hl 2 rfl) ?_
    refine lv_if_lt (tgt := 19) C.1 C.2.1 dX0_inject_10 (by decide) (fun c10 => ?_) (fun c10 => ?_)
    · refine lv_bipush (v := -2) C.1 C.2.1 dX0_inject_19 (by decide) ?_
      exact ox_ri C hO hS (by rw [os_inject, if_neg (fun q => by rw [os_bit_f c4] at q; cases q), if_pos (Or.inl c10)]) (by rw [os_inject, if_neg (fun q => by rw [os_bit_f c4] at q; cases q), if_pos (Or.inl c10)]) hr hlk dX0_inject_21
    · refine lv_iload_n C.1 C.2.1 dX0_inject_13 rfl (lv_at hl 2 rfl) ?_
      refine lv_bipush (v := 99) C.1 C.2.1 dX0_inject_14 (by decide) ?_
      refine lv_icmp_le (tgt := 22) C.1 C.2.1 dX0_inject_16 (by decide) (fun c16 => ?_) (fun c16 => ?_)
      · have c16 := Int32.not_lt.mpr c16
        refine lv_iload_n C.1 C.2.1 dX0_inject_22 rfl (lv_at hl 2 rfl) ?_
        refine ox_g4 C hO (lv_at hl 0 rfl) dX0_inject_23 dX0_inject_24 ?_
        refine lv_icmp_gt (tgt := 33) C.1 C.2.1 dX0_inject_27 (by decide) (fun c27 => ?_) (fun c27 => ?_)
        · refine ox_g3 C hO (lv_at hl 0 rfl) dX0_inject_33 dX0_inject_34 ?_
          refine lv_bipush (v := 24) C.1 C.2.1 dX0_inject_37 (by decide) ?_
          refine lv_icmp_lt (tgt := 45) C.1 C.2.1 dX0_inject_39 (by decide) (fun c39 => ?_) (fun c39 => ?_)
          · refine lv_aload_n C.1 C.2.1 dX0_inject_45 rfl (lv_at hl 0 rfl) ?_
            refine lv_dup C.1 C.2.1 dX0_inject_46 rfl ?_
            refine ox_f3 C hO dX0_inject_47 ?_
            refine lv_iconst (v := 1) C.1 C.2.1 dX0_inject_50 (by decide) ?_
            refine lv_iadd C.1 C.2.1 dX0_inject_51 ?_
            refine ox_p3 C hO hS dX0_inject_52 (fun H locs hO hS => ?_)
            have hO : ox_P D cI cZ h ad (os_inj1 σ) H := hO
            have hx : vp_in x 4 := os_badP_in (os_bit_f c4)
            have hb1 : os_bd 96 (os_inj1 σ) := by refine bd_of hbd ?_ ?_ ?_ ?_ ?_ <;> simp [os_inj1, os_set_k]
            have h01 : (os_inj1 σ) 18 0 = 0 := by simp [os_inj1, os_set_k, h0]
            refine lv_aload_n C.1 C.2.1 dX0_inject_55 rfl (lv_at hl 0 rfl) ?_
            refine lv_iload_n C.1 C.2.1 dX0_inject_56 rfl (lv_at hl 1 rfl) ?_
            refine lv_iload_n C.1 C.2.1 dX0_inject_57 rfl (lv_at hl 2 rfl) ?_
            refine lv_iload_n C.1 C.2.1 dX0_inject_58 rfl (lv_at hl 3 rfl) ?_
            refine lv_bipush (v := 15) C.1 C.2.1 dX0_inject_59 (by decide) ?_
            refine lv_iand C.1 C.2.1 dX0_inject_61 ?_
            refine lv_iload_n C.1 C.2.1 dX0_inject_62 rfl (lv_at hl 3 rfl) ?_
            refine lv_iconst (v := 4) C.1 C.2.1 dX0_inject_63 (by decide) ?_
            refine lv_ishr C.1 C.2.1 dX0_inject_64 ?_
            refine lv_iconst (v := 3) C.1 C.2.1 dX0_inject_65 (by decide) ?_
            refine lv_iand C.1 C.2.1 dX0_inject_66 ?_
            refine ox_ci (As := [.int x, .int t, .int (w &&& 15), .int ((w >>> ((4 : Int32) &&& 31)) &&& 3)]) (rest := []) C (mx_new l D cI cZ h ad (os_inj1 σ) x t (w &&& 15) ((w >>> ((4 : Int32) &&& 31)) &&& 3)) (cwV 4 C.2.2.2.2.1 (lw_V q108 q110 qs0 q23 q111) rfl rfl rfl (by decide +kernel) ⟨Nat.le_of_ble_eq_true rfl, Nat.le_of_ble_eq_true rfl⟩) hO hS rfl rfl hl.1 (Nat.le_of_ble_eq_true rfl) dX0_inject_67 ⟨Nat.zero_le _, Nat.zero_le _⟩ (fun H locs hO hS => ?_)
            have hO : ox_P D cI cZ h ad (os_inj2 σ x t w) H := hO
            have hb2 := bd_new hb1 h01 (e := os_free (os_inj1 σ)) (p := x) (t := t) (v := w &&& 15) (l := (w >>> ((4 : Int32) &&& 31)) &&& 3) hx
            refine lv_istore (lv' := [(4, .int (nI (os_free (os_inj1 σ)))), (0, .ref h), (1, .int x), (2, .int t), (3, .int w)]) C.1 C.2.1 dX0_inject_70 hl (by decide) rfl (fun ls hl => ?_)
            refine lv_aload_n C.1 C.2.1 dX0_inject_72 rfl (lv_at hl 1 rfl) ?_
            refine lv_iload C.1 C.2.1 dX0_inject_73 (lv_at hl 0 rfl) ?_
            refine ox_cv (As := [.int (nI (os_free (os_inj1 σ)))]) (rest := []) C (mx_arrive l D cI cZ h ad (os_inj2 σ x t w) (os_free (os_inj1 σ)) hb2.1 (os_free_96 _)) (cwV 1 C.2.2.2.2.1 (lw_V q112 q114 qs1 q23 q115) rfl rfl rfl (by decide +kernel) ⟨Nat.le_of_ble_eq_true rfl, Nat.le_of_ble_eq_true rfl⟩) hO hS rfl rfl hl.1 (Nat.le_of_ble_eq_true rfl) dX0_inject_75 ⟨Nat.zero_le _, Nat.zero_le _⟩ (fun H locs hO hS => ?_)
            refine ox_g3 C hO (lv_at hl 1 rfl) dX0_inject_78 dX0_inject_79 ?_
            exact ox_ri C hO hS (by rw [os_inject, if_neg (fun q => by rw [os_bit_f c4] at q; cases q), if_neg (fun q => q.elim c10 c16), if_neg (Int32.not_le.mpr c27), if_neg (Int32.not_le.mpr c39)]; rfl) (by rw [os_inject, if_neg (fun q => by rw [os_bit_f c4] at q; cases q), if_neg (fun q => q.elim c10 c16), if_neg (Int32.not_le.mpr c27), if_neg (Int32.not_le.mpr c39)]; rfl) hr hlk dX0_inject_82
          · refine lv_bipush (v := -3) C.1 C.2.1 dX0_inject_42 (by decide) ?_
            exact ox_ri C hO hS (by rw [os_inject, if_neg (fun q => by rw [os_bit_f c4] at q; cases q), if_neg (fun q => q.elim c10 c16), if_neg (Int32.not_le.mpr c27), if_pos (Int32.not_lt.mp c39)]) (by rw [os_inject, if_neg (fun q => by rw [os_bit_f c4] at q; cases q), if_neg (fun q => q.elim c10 c16), if_neg (Int32.not_le.mpr c27), if_pos (Int32.not_lt.mp c39)]) hr hlk dX0_inject_44
        · refine lv_bipush (v := -4) C.1 C.2.1 dX0_inject_30 (by decide) ?_
          exact ox_ri C hO hS (by rw [os_inject, if_neg (fun q => by rw [os_bit_f c4] at q; cases q), if_neg (fun q => q.elim c10 c16), if_pos (Int32.not_lt.mp c27)]) (by rw [os_inject, if_neg (fun q => by rw [os_bit_f c4] at q; cases q), if_neg (fun q => q.elim c10 c16), if_pos (Int32.not_lt.mp c27)]) hr hlk dX0_inject_32
      · have c16 := Int32.not_le.mp c16
        refine lv_bipush (v := -2) C.1 C.2.1 dX0_inject_19 (by decide) ?_
        exact ox_ri C hO hS (by rw [os_inject, if_neg (fun q => by rw [os_bit_f c4] at q; cases q), if_pos (Or.inr c16)]) (by rw [os_inject, if_neg (fun q => by rw [os_bit_f c4] at q; cases q), if_pos (Or.inr c16)]) hr hlk dX0_inject_21
  · refine lv_iconst (v := -1) C.1 C.2.1 dX0_inject_7 (by decide) ?_
    exact ox_ri C hO hS (by rw [os_inject, if_pos (os_bit_t c4)]) (by rw [os_inject, if_pos (os_bit_t c4)]) hr hlk dX0_inject_8
end
section
/-! walks of OptimisticSim (printed by gen/walk.py) -/
set_option maxRecDepth 100000
theorem os_earlF_lt {σ : os_St} {t : Int32} : ∀ {n b : Nat}, os_earlF σ t n = some b → b < 96
  | 0, b, h => by cases h
  | n + 1, b, h => by
    rw [os_earlF] at h
    cases hk : os_next σ (nI n) 96 with
    | none =>
      rw [hk, os_pick2] at h
      exact os_earlF_lt h
    | some k =>
      have hk96 : k < 96 := os_best_lt hk
      cases hb : os_earlF σ t n with
      | none =>
        rw [hk, hb, os_pick2] at h
        split at h
        · cases h
        · cases h; exact hk96
      | some b0 =>
        have hb0 := os_earlF_lt hb
        rw [hk, hb, os_pick2] at h
        split at h
        · cases h; exact hb0
        · split at h
          · cases h; exact hk96
          · cases h; exact hb0
theorem os_reachF_none {σ : os_St} {t : Int32} (h : os_earl σ t = none) : ∀ (n : Nat), os_reachF t n σ = σ
  | 0 => rfl
  | n + 1 => by rw [os_reachF, h, os_hopt]; exact os_reachF_none h n
theorem os_earl_lt {σ : os_St} {t : Int32} {b : Nat} (h : os_earl σ t = some b) : b < 96 := os_earlF_lt h
theorem os_rounds_le (y : Int32) : os_rounds y ≤ 96 := Nat.min_le_right _ _
theorem os_ix_lt {y : Int32} {i : Nat} (hi : i < 2 ^ 31) : nI i < y ↔ i < os_ix y := by
  rw [Int32.lt_iff_toInt_lt, nI_toInt hi, os_ix, Int32.toNatClampNeg]
  omega
theorem os_rounds_lt {y : Int32} {i : Nat} (h : i < os_rounds y) : nI i < y := by
  have h1 : i < os_ix y := Nat.lt_of_lt_of_le h (Nat.min_le_left _ _)
  have h2 : i < 96 := Nat.lt_of_lt_of_le h (Nat.min_le_right _ _)
  exact (os_ix_lt (by omega)).mpr h1
theorem os_rounds_ne {y : Int32} {i : Nat} (h1 : nI i < y) (h2 : nI i < 96) (hi : i < 2 ^ 31) : ¬ i + 0 = os_rounds y := by
  have a := (os_ix_lt hi).mp h1
  have b := (nI_ltI (a := i) (b := 96) hi (by omega)).mp h2
  unfold os_rounds
  omega
set_option maxHeartbeats 4000000 in
theorem mx_earl (l : Launch) (D : va_G) (cI cZ : ClassId) (h : Nat) (ad : Nat → Nat) (σ : os_St) (t : Int32) : os_MI l yX0_earliest cX0_earliest 5 .int (os_rm 2 45) (ox_A h ad) [.ref h, .int t] (ox_W D cI cZ h ad σ) (ox_W D cI cZ h ad σ) (os_enc (os_earl σ t)) := by
  refine ox_ei (by decide) rfl (Nat.le_of_ble_eq_true rfl) ?_
  intro pg e s m below meth c C hr hlk hO hS ls hl
  have hl : lv_has ls 5 [(0, .ref h), (1, .int t)] := hl
  have loop : ∀ (n i : Nat) (ob : Option Nat), i + n = 4 → os_earlF σ t i = ob → (∀ b, ob = some b → b < 96) → ∀ (H : Heap) (locs : List Loc), ox_P D cI cZ h ad σ H → va_S (ox_A h ad) s.heap H locs → ∀ ls : Array Slot, lv_has ls 5 [(0, .ref h), (1, .int t), (2, .int (os_enc ob)), (3, .int (nI i))] → W pg l e (os_rm 2 45) s m ([.ref h, .int t] : List Value).toArray below meth c H locs 0 0 (ox_QI below D cI cZ h ad σ (os_enc (os_earl σ t)) ([.ref h, .int t] : List Value).toArray s) (F0 m 4 ls []) := by
    intro n
    induction n with
    | zero =>
      intro i ob hi hob hrg H locs hO hS ls hl
      obtain rfl : i = 4 := by omega
      refine lv_iload_n C.1 C.2.1 dX0_earliest_4 rfl (lv_at hl 3 rfl) ?_
      refine lv_iconst (v := 4) C.1 C.2.1 dX0_earliest_5 (by decide) ?_
      refine lv_icmp_ge (tgt := 61) C.1 C.2.1 dX0_earliest_6 (by decide) (fun c6 => ?_) (fun c6 => ?_)
      · have c6 := Int32.not_lt.mpr c6
        refine lv_iload_n C.1 C.2.1 dX0_earliest_61 rfl (lv_at hl 2 rfl) ?_
        exact ox_ri C hO hS (by rw [os_earl, hob]) rfl hr hlk dX0_earliest_62
      · have c6 := Int32.not_le.mp c6
        exact absurd c6 (by decide)
    | succ n ih =>
      intro i ob hi hob hrg H locs hO hS ls hl
      refine lv_iload_n C.1 C.2.1 dX0_earliest_4 rfl (lv_at hl 3 rfl) ?_
      refine lv_iconst (v := 4) C.1 C.2.1 dX0_earliest_5 (by decide) ?_
      refine lv_icmp_ge (tgt := 61) C.1 C.2.1 dX0_earliest_6 (by decide) (fun c6 => ?_) (fun c6 => ?_)
      · have c6 := Int32.not_lt.mpr c6
        exact absurd (nI_lt (a := i) (b := 4) (by omega) (by omega)) c6
      · have c6 := Int32.not_le.mp c6
        refine lv_aload_n C.1 C.2.1 dX0_earliest_9 rfl (lv_at hl 0 rfl) ?_
        refine lv_iload_n C.1 C.2.1 dX0_earliest_10 rfl (lv_at hl 3 rfl) ?_
        refine ox_ci (As := [.int (nI i)]) (rest := []) C (mx_next l D cI cZ h ad σ (nI i)) (cwV 1 C.2.2.2.2.1 (lw_V q140 q142 qs7 q23 q143) rfl rfl rfl (by decide +kernel) ⟨Nat.le_of_ble_eq_true rfl, Nat.le_of_ble_eq_true rfl⟩) hO hS rfl rfl hl.1 (Nat.le_of_ble_eq_true rfl) dX0_earliest_11 ⟨Nat.zero_le _, Nat.zero_le _⟩ (fun H locs hO hS => ?_)
        cases hnx : os_next σ (nI i) 96 with
        | none =>
          refine lv_istore (lv' := [(4, .int (os_enc none)), (0, .ref h), (1, .int t), (2, .int (os_enc ob)), (3, .int (nI i))]) C.1 C.2.1 dX0_earliest_14 hl (by decide) rfl (fun ls hl => ?_)
          refine lv_iload C.1 C.2.1 dX0_earliest_16 (lv_at hl 0 rfl) ?_
          refine lv_if_lt (tgt := 55) C.1 C.2.1 dX0_earliest_18 (by decide) (fun c18 => ?_) (fun c18 => ?_)
          · refine lv_iinc (v := nI (i + 1)) (lv' := [(3, .int (nI (i + 1))), (4, .int (os_enc none)), (0, .ref h), (1, .int t), (2, .int (os_enc ob))]) C.1 C.2.1 dX0_earliest_55 hl (k := 4) rfl (nI_1 i) (by decide) rfl (fun ls hl => ?_)
            refine lv_goto (tgt := 4) C.1 C.2.1 dX0_earliest_58 (by decide) ?_
            exact ih (i + 1) ob (by omega) (by rw [os_earlF, hnx, os_pick2]; exact hob) hrg H locs hO hS ls (lv_sub hl [2, 3, 4, 0] rfl)
          · exact absurd os_m1neg c18
        | some k =>
          have hk : k < 96 := os_best_lt hnx
          show W pg l e (os_rm 2 45) s m ([.ref h, .int t] : List Value).toArray below meth c H locs 0 0 (ox_QI below D cI cZ h ad σ (os_enc (os_earl σ t)) ([.ref h, .int t] : List Value).toArray s) (F0 m 14 ls [.int (nI k)])
          refine lv_istore (lv' := [(4, .int (nI k)), (0, .ref h), (1, .int t), (2, .int (os_enc ob)), (3, .int (nI i))]) C.1 C.2.1 dX0_earliest_14 hl (by decide) rfl (fun ls hl => ?_)
          refine lv_iload C.1 C.2.1 dX0_earliest_16 (lv_at hl 0 rfl) ?_
          refine lv_if_lt (tgt := 55) C.1 C.2.1 dX0_earliest_18 (by decide) (fun c18 => ?_) (fun c18 => ?_)
          · exact absurd c18 (os_nneg (by omega))
          · refine ox_g6 C hO (lv_at hl 1 rfl) dX0_earliest_21 dX0_earliest_22 ?_
            refine lv_iload C.1 C.2.1 dX0_earliest_25 (lv_at hl 0 rfl) ?_
            refine ox_l6 (j := k) C hO (nI_clamp (by omega)) (vp_in_nI (by omega) (by omega)) dX0_earliest_27 ?_
            refine lv_iload_n C.1 C.2.1 dX0_earliest_28 rfl (lv_at hl 2 rfl) ?_
            refine lv_icmp_gt (tgt := 55) C.1 C.2.1 dX0_earliest_29 (by decide) (fun c29 => ?_) (fun c29 => ?_)
            · refine lv_iinc (v := nI (i + 1)) (lv' := [(3, .int (nI (i + 1))), (4, .int (nI k)), (0, .ref h), (1, .int t), (2, .int (os_enc ob))]) C.1 C.2.1 dX0_earliest_55 hl (k := 4) rfl (nI_1 i) (by decide) rfl (fun ls hl => ?_)
              refine lv_goto (tgt := 4) C.1 C.2.1 dX0_earliest_58 (by decide) ?_
              exact ih (i + 1) ob (by omega) (by rw [os_earlF, hnx, hob]; cases ob <;> simp [os_pick2, c29]) hrg H locs hO hS ls (lv_sub hl [2, 3, 4, 0] rfl)
            · cases ob with
              | none =>
                have hl : lv_has ls 5 [(4, .int (nI k)), (0, .ref h), (1, .int t), (2, .int (os_enc none)), (3, .int (nI i))] := hl
                refine lv_iload_n C.1 C.2.1 dX0_earliest_32 rfl (lv_at hl 3 rfl) ?_
                refine lv_if_lt (tgt := 52) C.1 C.2.1 dX0_earliest_33 (by decide) (fun c33 => ?_) (fun c33 => ?_)
                · refine lv_iload C.1 C.2.1 dX0_earliest_52 (lv_at hl 0 rfl) ?_
                  refine lv_istore_n (lv' := [(2, .int (nI k)), (4, .int (nI k)), (0, .ref h), (1, .int t), (3, .int (nI i))]) C.1 C.2.1 dX0_earliest_54 rfl hl (by decide) rfl (fun ls hl => ?_)
                  refine lv_iinc (v := nI (i + 1)) (lv' := [(3, .int (nI (i + 1))), (2, .int (nI k)), (4, .int (nI k)), (0, .ref h), (1, .int t)]) C.1 C.2.1 dX0_earliest_55 hl (k := 4) rfl (nI_1 i) (by decide) rfl (fun ls hl => ?_)
                  refine lv_goto (tgt := 4) C.1 C.2.1 dX0_earliest_58 (by decide) ?_
                  exact ih (i + 1) (some k) (by omega) (by rw [os_earlF, hnx, hob, os_pick2, if_neg c29]) (fun _ q => by cases q; exact hk) H locs hO hS ls (lv_sub hl [3, 4, 1, 0] rfl)
                · exact absurd os_m1neg c33
              | some b =>
                have hb := hrg b rfl
                have hl : lv_has ls 5 [(4, .int (nI k)), (0, .ref h), (1, .int t), (2, .int (nI b)), (3, .int (nI i))] := hl
                refine lv_iload_n C.1 C.2.1 dX0_earliest_32 rfl (lv_at hl 3 rfl) ?_
                refine lv_if_lt (tgt := 52) C.1 C.2.1 dX0_earliest_33 (by decide) (fun c33 => ?_) (fun c33 => ?_)
                · exact absurd c33 (os_nneg (by omega))
                · refine ox_g6 C hO (lv_at hl 1 rfl) dX0_earliest_36 dX0_earliest_37 ?_
                  refine lv_iload C.1 C.2.1 dX0_earliest_40 (lv_at hl 0 rfl) ?_
                  refine ox_l6 (j := k) C hO (nI_clamp (by omega)) (vp_in_nI (by omega) (by omega)) dX0_earliest_42 ?_
                  refine ox_g6 C hO (lv_at hl 1 rfl) dX0_earliest_43 dX0_earliest_44 ?_
                  refine lv_iload_n C.1 C.2.1 dX0_earliest_47 rfl (lv_at hl 3 rfl) ?_
                  refine ox_l6 (j := b) C hO (nI_clamp (by omega)) (vp_in_nI (by omega) (by omega)) dX0_earliest_48 ?_
                  refine lv_icmp_ge (tgt := 55) C.1 C.2.1 dX0_earliest_49 (by decide) (fun c49 => ?_) (fun c49 => ?_)
                  · have c49 := Int32.not_lt.mpr c49
                    refine lv_iinc (v := nI (i + 1)) (lv' := [(3, .int (nI (i + 1))), (4, .int (nI k)), (0, .ref h), (1, .int t), (2, .int (nI b))]) C.1 C.2.1 dX0_earliest_55 hl (k := 4) rfl (nI_1 i) (by decide) rfl (fun ls hl => ?_)
                    refine lv_goto (tgt := 4) C.1 C.2.1 dX0_earliest_58 (by decide) ?_
                    exact ih (i + 1) (some b) (by omega) (by rw [os_earlF, hnx, hob, os_pick2, if_neg c29]; exact if_neg c49) hrg H locs hO hS ls (lv_sub hl [2, 3, 4, 0] rfl)
                  · have c49 := Int32.not_le.mp c49
                    refine lv_iload C.1 C.2.1 dX0_earliest_52 (lv_at hl 0 rfl) ?_
                    refine lv_istore_n (lv' := [(2, .int (nI k)), (4, .int (nI k)), (0, .ref h), (1, .int t), (3, .int (nI i))]) C.1 C.2.1 dX0_earliest_54 rfl hl (by decide) rfl (fun ls hl => ?_)
                    refine lv_iinc (v := nI (i + 1)) (lv' := [(3, .int (nI (i + 1))), (2, .int (nI k)), (4, .int (nI k)), (0, .ref h), (1, .int t)]) C.1 C.2.1 dX0_earliest_55 hl (k := 4) rfl (nI_1 i) (by decide) rfl (fun ls hl => ?_)
                    refine lv_goto (tgt := 4) C.1 C.2.1 dX0_earliest_58 (by decide) ?_
                    exact ih (i + 1) (some k) (by omega) (by rw [os_earlF, hnx, hob, os_pick2, if_neg c29]; exact if_pos c49) (fun _ q => by cases q; exact hk) H locs hO hS ls (lv_sub hl [3, 4, 1, 0] rfl)
  refine lv_iconst (v := -1) C.1 C.2.1 dX0_earliest_0 (by decide) ?_
  refine lv_istore_n (lv' := [(2, .int (-1)), (0, .ref h), (1, .int t)]) C.1 C.2.1 dX0_earliest_1 rfl hl (by decide) rfl (fun ls hl => ?_)
  refine lv_iconst (v := 0) C.1 C.2.1 dX0_earliest_2 (by decide) ?_
  refine lv_istore_n (lv' := [(3, .int 0), (2, .int (-1)), (0, .ref h), (1, .int t)]) C.1 C.2.1 dX0_earliest_3 rfl hl (by decide) rfl (fun ls hl => ?_)
  exact loop 4 0 none rfl rfl (fun _ q => by cases q) s.heap [] hO hS ls (lv_sub hl [2, 3, 1, 0] rfl)
set_option maxHeartbeats 4000000 in
theorem mx_reach (l : Launch) (D : va_G) (cI cZ : ClassId) (h : Nat) (ad : Nat → Nat) (σ : os_St) (t : Int32) (hbd : os_bd 96 σ) (h0 : σ 18 0 = 0) : os_MV l yX0_reach cX0_reach 4 (os_rm 6 134) (ox_A h ad) [.ref h, .int t] (ox_W D cI cZ h ad σ) (ox_W D cI cZ h ad (os_reach σ t)) := by
  refine ox_ev (by decide) rfl (Nat.le_of_ble_eq_true rfl) ?_
  intro pg e s m below meth c C hr hlk hO hS ls hl
  have hl : lv_has ls 4 [(0, .ref h), (1, .int t)] := hl
  have loop : ∀ (n i : Nat) (τ : os_St) (ob : Option Nat), i + n = 200 → os_bd 96 τ → τ 18 0 = 0 → os_earl τ t = ob → os_reach σ t = os_reachF t n τ → ∀ (H : Heap) (locs : List Loc), ox_P D cI cZ h ad (τ) H → va_S (ox_A h ad) s.heap H locs → ∀ ls : Array Slot, lv_has ls 4 [(0, .ref h), (1, .int t), (2, .int (os_enc ob)), (3, .int (nI i))] → W pg l e (os_rm 6 134) s m ([.ref h, .int t] : List Value).toArray below meth c H locs 0 0 (ox_QV below D cI cZ h ad (os_reach σ t) ([.ref h, .int t] : List Value).toArray s) (F0 m 8 ls []) := by
    intro n
    induction n with
    | zero =>
      intro i τ ob hi hB hz hob hg H locs hO hS ls hl
      obtain rfl : i = 200 := by omega
      refine lv_iload_n C.1 C.2.1 dX0_reach_8 rfl (lv_at hl 3 rfl) ?_
      refine lv_sipush (v := 200) C.1 C.2.1 dX0_reach_9 (by decide) ?_
      refine lv_icmp_ge (tgt := 36) C.1 C.2.1 dX0_reach_12 (by decide) (fun c12 => ?_) (fun c12 => ?_)
      · have c12 := Int32.not_lt.mpr c12
        exact ox_rv C hO hS hg.symm hr hlk dX0_reach_36
      · have c12 := Int32.not_le.mp c12
        exact absurd c12 (by decide)
    | succ n ih =>
      intro i τ ob hi hB hz hob hg H locs hO hS ls hl
      cases ob with
      | none =>
        refine lv_iload_n C.1 C.2.1 dX0_reach_8 rfl (lv_at hl 3 rfl) ?_
        refine lv_sipush (v := 200) C.1 C.2.1 dX0_reach_9 (by decide) ?_
        refine lv_icmp_ge (tgt := 36) C.1 C.2.1 dX0_reach_12 (by decide) (fun c12 => ?_) (fun c12 => ?_)
        · have c12 := Int32.not_lt.mpr c12
          exact absurd (nI_lt (a := i) (b := 200) (by omega) (by omega)) c12
        · have c12 := Int32.not_le.mp c12
          refine lv_iload_n C.1 C.2.1 dX0_reach_15 rfl (lv_at hl 2 rfl) ?_
          refine lv_if_lt (tgt := 36) C.1 C.2.1 dX0_reach_16 (by decide) (fun c16 => ?_) (fun c16 => ?_)
          · exact ox_rv C hO hS (by rw [hg, os_reachF_none hob]) hr hlk dX0_reach_36
          · exact absurd os_m1neg c16
      | some k =>
        have hk : k < 96 := os_earl_lt hob
        have hl : lv_has ls 4 [(0, .ref h), (1, .int t), (2, .int (nI k)), (3, .int (nI i))] := hl
        have hg : os_reach σ t = os_reachF t n (os_handle τ k) := by rw [hg, os_reachF, hob, os_hopt]
        refine lv_iload_n C.1 C.2.1 dX0_reach_8 rfl (lv_at hl 3 rfl) ?_
        refine lv_sipush (v := 200) C.1 C.2.1 dX0_reach_9 (by decide) ?_
        refine lv_icmp_ge (tgt := 36) C.1 C.2.1 dX0_reach_12 (by decide) (fun c12 => ?_) (fun c12 => ?_)
        · have c12 := Int32.not_lt.mpr c12
          exact absurd (nI_lt (a := i) (b := 200) (by omega) (by omega)) c12
        · have c12 := Int32.not_le.mp c12
          refine lv_iload_n C.1 C.2.1 dX0_reach_15 rfl (lv_at hl 2 rfl) ?_
          refine lv_if_lt (tgt := 36) C.1 C.2.1 dX0_reach_16 (by decide) (fun c16 => ?_) (fun c16 => ?_)
          · exact absurd c16 (os_nneg (by omega))
          · refine lv_aload_n C.1 C.2.1 dX0_reach_19 rfl (lv_at hl 0 rfl) ?_
            refine lv_iload_n C.1 C.2.1 dX0_reach_20 rfl (lv_at hl 2 rfl) ?_
            refine ox_cv (As := [.int (nI k)]) (rest := []) C (mx_handle l D cI cZ h ad (τ) k hB hz hk) (cwV 1 C.2.2.2.2.1 (lw_V q144 q146 qs8 q23 q147) rfl rfl rfl (by decide +kernel) ⟨Nat.le_of_ble_eq_true rfl, Nat.le_of_ble_eq_true rfl⟩) hO hS rfl rfl hl.1 (Nat.le_of_ble_eq_true rfl) dX0_reach_21 ⟨Nat.zero_le _, Nat.zero_le _⟩ (fun H locs hO hS => ?_)
            refine lv_aload_n C.1 C.2.1 dX0_reach_24 rfl (lv_at hl 0 rfl) ?_
            refine lv_iload_n C.1 C.2.1 dX0_reach_25 rfl (lv_at hl 1 rfl) ?_
            refine ox_ci (As := [.int t]) (rest := []) C (mx_earl l D cI cZ h ad (os_handle (τ) k) t) (cwV 1 C.2.2.2.2.1 (lw_V q156 q158 qs10 q23 q159) rfl rfl rfl (by decide +kernel) ⟨Nat.le_of_ble_eq_true rfl, Nat.le_of_ble_eq_true rfl⟩) hO hS rfl rfl hl.1 (Nat.le_of_ble_eq_true rfl) dX0_reach_26 ⟨Nat.zero_le _, Nat.zero_le _⟩ (fun H locs hO hS => ?_)
            refine lv_istore_n (lv' := [(2, .int (os_enc (os_earl (os_handle (τ) k) t))), (0, .ref h), (1, .int t), (3, .int (nI i))]) C.1 C.2.1 dX0_reach_29 rfl hl (by decide) rfl (fun ls hl => ?_)
            refine lv_iinc (v := nI (i + 1)) (lv' := [(3, .int (nI (i + 1))), (2, .int (os_enc (os_earl (os_handle (τ) k) t))), (0, .ref h), (1, .int t)]) C.1 C.2.1 dX0_reach_30 hl (k := 3) rfl (nI_1 i) (by decide) rfl (fun ls hl => ?_)
            refine lv_goto (tgt := 8) C.1 C.2.1 dX0_reach_33 (by decide) ?_
            exact ih (i + 1) (os_handle τ k) (os_earl (os_handle τ k) t) (by omega) (bd_handle hB hz hk).1 (bd_handle hB hz hk).2 rfl hg H locs hO hS ls (lv_sub hl [2, 3, 1, 0] rfl)
  refine lv_aload_n C.1 C.2.1 dX0_reach_0 rfl (lv_at hl 0 rfl) ?_
  refine lv_iload_n C.1 C.2.1 dX0_reach_1 rfl (lv_at hl 1 rfl) ?_
  refine ox_ci (As := [.int t]) (rest := []) C (mx_earl l D cI cZ h ad σ t) (cwV 1 C.2.2.2.2.1 (lw_V q156 q158 qs10 q23 q159) rfl rfl rfl (by decide +kernel) ⟨Nat.le_of_ble_eq_true rfl, Nat.le_of_ble_eq_true rfl⟩) hO hS rfl rfl hl.1 (Nat.le_of_ble_eq_true rfl) dX0_reach_2 ⟨Nat.zero_le _, Nat.zero_le _⟩ (fun H locs hO hS => ?_)
  refine lv_istore_n (lv' := [(2, .int (os_enc (os_earl σ t))), (0, .ref h), (1, .int t)]) C.1 C.2.1 dX0_reach_5 rfl hl (by decide) rfl (fun ls hl => ?_)
  refine lv_iconst (v := 0) C.1 C.2.1 dX0_reach_6 (by decide) ?_
  refine lv_istore_n (lv' := [(3, .int 0), (2, .int (os_enc (os_earl σ t))), (0, .ref h), (1, .int t)]) C.1 C.2.1 dX0_reach_7 rfl hl (by decide) rfl (fun ls hl => ?_)
  exact loop 200 0 σ (os_earl σ t) rfl hbd h0 rfl rfl H locs hO hS ls (lv_sub hl [2, 3, 1, 0] rfl)
set_option maxHeartbeats 4000000 in
theorem mx_work (l : Launch) (D : va_G) (cI cZ : ClassId) (h : Nat) (ad : Nat → Nat) (σ : os_St) (x y : Int32) (hbd : os_bd 96 σ) (h0 : σ 18 0 = 0) : os_MI l yX0_work cX0_work 5 .int (os_rm 6 134) (ox_A h ad) [.ref h, .int x, .int y] (ox_W D cI cZ h ad σ) (ox_W D cI cZ h ad ((os_work σ x y).2)) ((os_work σ x y).1) := by
  refine ox_ei (by decide) rfl (Nat.le_of_ble_eq_true rfl) ?_
  intro pg e s m below meth c C hr hlk hO hS ls hl
  have hl : lv_has ls 5 [(0, .ref h), (1, .int x), (2, .int y)] := hl
  have loop : ∀ (n i : Nat) (τ : os_St), i + n = os_rounds y → os_badP x = false → os_bd 96 τ → τ 18 0 = 0 → os_workF x (os_rounds y) σ = os_workF x n τ → ∀ (H : Heap) (locs : List Loc), ox_P D cI cZ h ad (τ) H → va_S (ox_A h ad) s.heap H locs → ∀ ls : Array Slot, lv_has ls 5 [(0, .ref h), (1, .int x), (2, .int y), (3, .int (nI i))] → W pg l e (os_rm 6 134) s m ([.ref h, .int x, .int y] : List Value).toArray below meth c H locs 0 0 (ox_QI below D cI cZ h ad ((os_work σ x y).2) ((os_work σ x y).1) ([.ref h, .int x, .int y] : List Value).toArray s) (F0 m 11 ls []) := by
    intro n
    induction n with
    | zero =>
      intro i τ hi hx hB hz hg H locs hO hS ls hl
      have hi96 : i ≤ 96 := by have := os_rounds_le y; omega
      refine lv_iload_n C.1 C.2.1 dX0_work_11 rfl (lv_at hl 3 rfl) ?_
      refine lv_iload_n C.1 C.2.1 dX0_work_12 rfl (lv_at hl 2 rfl) ?_
      refine lv_icmp_ge (tgt := 46) C.1 C.2.1 dX0_work_13 (by decide) (fun c13 => ?_) (fun c13 => ?_)
      · have c13 := Int32.not_lt.mpr c13
        refine lv_iconst (v := 0) C.1 C.2.1 dX0_work_46 (by decide) ?_
        exact ox_ri C hO hS (by rw [os_work, if_neg (by rw [hx]; decide)]) (by rw [os_work, if_neg (by rw [hx]; decide)]; exact hg.symm) hr hlk dX0_work_47
      · have c13 := Int32.not_le.mp c13
        refine lv_iload_n C.1 C.2.1 dX0_work_16 rfl (lv_at hl 3 rfl) ?_
        refine lv_bipush (v := 96) C.1 C.2.1 dX0_work_17 (by decide) ?_
        refine lv_icmp_ge (tgt := 46) C.1 C.2.1 dX0_work_19 (by decide) (fun c19 => ?_) (fun c19 => ?_)
        · have c19 := Int32.not_lt.mpr c19
          refine lv_iconst (v := 0) C.1 C.2.1 dX0_work_46 (by decide) ?_
          exact ox_ri C hO hS (by rw [os_work, if_neg (by rw [hx]; decide)]) (by rw [os_work, if_neg (by rw [hx]; decide)]; exact hg.symm) hr hlk dX0_work_47
        · have c19 := Int32.not_le.mp c19
          exact absurd hi (os_rounds_ne c13 c19 (by omega))
    | succ n ih =>
      intro i τ hi hx hB hz hg H locs hO hS ls hl
      have hi2 : i < os_rounds y := by omega
      have hi96 : i < 96 := by have := os_rounds_le y; omega
      refine lv_iload_n C.1 C.2.1 dX0_work_11 rfl (lv_at hl 3 rfl) ?_
      refine lv_iload_n C.1 C.2.1 dX0_work_12 rfl (lv_at hl 2 rfl) ?_
      refine lv_icmp_ge (tgt := 46) C.1 C.2.1 dX0_work_13 (by decide) (fun c13 => ?_) (fun c13 => ?_)
      · have c13 := Int32.not_lt.mpr c13
        exact absurd (os_rounds_lt hi2) c13
      · have c13 := Int32.not_le.mp c13
        refine lv_iload_n C.1 C.2.1 dX0_work_16 rfl (lv_at hl 3 rfl) ?_
        refine lv_bipush (v := 96) C.1 C.2.1 dX0_work_17 (by decide) ?_
        refine lv_icmp_ge (tgt := 46) C.1 C.2.1 dX0_work_19 (by decide) (fun c19 => ?_) (fun c19 => ?_)
        · have c19 := Int32.not_lt.mpr c19
          exact absurd (nI_lt (a := i) (b := 96) (by omega) (by omega)) c19
        · have c19 := Int32.not_le.mp c19
          refine lv_aload_n C.1 C.2.1 dX0_work_22 rfl (lv_at hl 0 rfl) ?_
          refine lv_iload_n C.1 C.2.1 dX0_work_23 rfl (lv_at hl 1 rfl) ?_
          refine ox_ci (As := [.int x]) (rest := []) C (mx_next l D cI cZ h ad (τ) x) (cwV 1 C.2.2.2.2.1 (lw_V q140 q142 qs7 q23 q143) rfl rfl rfl (by decide +kernel) ⟨Nat.le_of_ble_eq_true rfl, Nat.le_of_ble_eq_true rfl⟩) hO hS rfl rfl hl.1 (Nat.le_of_ble_eq_true rfl) dX0_work_24 ⟨Nat.zero_le _, Nat.zero_le _⟩ (fun H locs hO hS => ?_)
          cases hnx : os_next τ x 96 with
          | none =>
            have hg : os_workF x (os_rounds y) σ = os_workF x n τ := by rw [hg, os_workF, os_step1, hnx, os_hopt]
            refine lv_istore (lv' := [(4, .int (os_enc none)), (0, .ref h), (1, .int x), (2, .int y), (3, .int (nI i))]) C.1 C.2.1 dX0_work_27 hl (by decide) rfl (fun ls hl => ?_)
            refine lv_iload C.1 C.2.1 dX0_work_29 (lv_at hl 0 rfl) ?_
            refine lv_if_lt (tgt := 40) C.1 C.2.1 dX0_work_31 (by decide) (fun c31 => ?_) (fun c31 => ?_)
            · refine lv_iinc (v := nI (i + 1)) (lv' := [(3, .int (nI (i + 1))), (4, .int (os_enc none)), (0, .ref h), (1, .int x), (2, .int y)]) C.1 C.2.1 dX0_work_40 hl (k := 4) rfl (nI_1 i) (by decide) rfl (fun ls hl => ?_)
              refine lv_goto (tgt := 11) C.1 C.2.1 dX0_work_43 (by decide) ?_
              exact ih (i + 1) τ (by omega) hx hB hz hg H locs hO hS ls (lv_sub hl [2, 3, 4, 0] rfl)
            · exact absurd os_m1neg c31
          | some k =>
            have hk : k < 96 := os_best_lt hnx
            have hg : os_workF x (os_rounds y) σ = os_workF x n (os_handle τ k) := by rw [hg, os_workF, os_step1, hnx, os_hopt]
            show W pg l e (os_rm 6 134) s m ([.ref h, .int x, .int y] : List Value).toArray below meth c H locs 0 0 (ox_QI below D cI cZ h ad ((os_work σ x y).2) ((os_work σ x y).1) ([.ref h, .int x, .int y] : List Value).toArray s) (F0 m 27 ls [.int (nI k)])
            refine lv_istore (lv' := [(4, .int (nI k)), (0, .ref h), (1, .int x), (2, .int y), (3, .int (nI i))]) C.1 C.2.1 dX0_work_27 hl (by decide) rfl (fun ls hl => ?_)
            refine lv_iload C.1 C.2.1 dX0_work_29 (lv_at hl 0 rfl) ?_
            refine lv_if_lt (tgt := 40) C.1 C.2.1 dX0_work_31 (by decide) (fun c31 => ?_) (fun c31 => ?_)
            · exact absurd c31 (os_nneg (by omega))
            · refine lv_aload_n C.1 C.2.1 dX0_work_34 rfl (lv_at hl 1 rfl) ?_
              refine lv_iload C.1 C.2.1 dX0_work_35 (lv_at hl 0 rfl) ?_
              refine ox_cv (As := [.int (nI k)]) (rest := []) C (mx_handle l D cI cZ h ad (τ) k hB hz hk) (cwV 1 C.2.2.2.2.1 (lw_V q144 q146 qs8 q23 q147) rfl rfl rfl (by decide +kernel) ⟨Nat.le_of_ble_eq_true rfl, Nat.le_of_ble_eq_true rfl⟩) hO hS rfl rfl hl.1 (Nat.le_of_ble_eq_true rfl) dX0_work_37 ⟨Nat.zero_le _, Nat.zero_le _⟩ (fun H locs hO hS => ?_)
              refine lv_iinc (v := nI (i + 1)) (lv' := [(3, .int (nI (i + 1))), (4, .int (nI k)), (0, .ref h), (1, .int x), (2, .int y)]) C.1 C.2.1 dX0_work_40 hl (k := 4) rfl (nI_1 i) (by decide) rfl (fun ls hl => ?_)
              refine lv_goto (tgt := 11) C.1 C.2.1 dX0_work_43 (by decide) ?_
              exact ih (i + 1) (os_handle τ k) (by omega) hx (bd_handle hB hz hk).1 (bd_handle hB hz hk).2 hg H locs hO hS ls (lv_sub hl [2, 3, 4, 0] rfl)
  refine lv_iload_n C.1 C.2.1 dX0_work_0 rfl (lv_at hl 1 rfl) ?_
  refine ox_cs (As := [.int x]) (rest := []) C (mx_badP l D cI cZ h ad σ x) (va_cwS 1 C.2.2.2.2.1 (lw_S q101 q102 q23 q103) rfl rfl rfl (by decide +kernel) ⟨Nat.le_of_ble_eq_true rfl, Nat.le_of_ble_eq_true rfl⟩) hO hS rfl rfl hl.1 (Nat.le_of_ble_eq_true rfl) dX0_work_1 ⟨Nat.zero_le _, Nat.zero_le _⟩ (fun H locs hO hS => ?_)
  refine lv_if_eq (tgt := 9) C.1 C.2.1 dX0_work_4 (by decide) (fun c4 => ?_) (fun c4 => ?_)
  · refine lv_iconst (v := 0) C.1 C.2.1 dX0_work_9 (by decide) ?_
    refine lv_istore_n (lv' := [(3, .int 0), (0, .ref h), (1, .int x), (2, .int y)]) C.1 C.2.1 dX0_work_10 rfl hl (by decide) rfl (fun ls hl => ?_)
    exact loop (os_rounds y) 0 σ (by omega) (os_bit_f c4) hbd h0 rfl H locs hO hS ls (lv_sub hl [1, 2, 3, 0] rfl)
  · refine lv_iconst (v := -1) C.1 C.2.1 dX0_work_7 (by decide) ?_
    exact ox_ri C hO hS (by rw [os_work, if_pos (os_bit_t c4)]) (by rw [os_work, if_pos (os_bit_t c4)]) hr hlk dX0_work_8
end
section
/-! walks of OptimisticSim (printed by gen/walk.py) -/
set_option maxRecDepth 100000
set_option maxHeartbeats 4000000 in
theorem mx_count (l : Launch) (D : va_G) (cI cZ : ClassId) (h : Nat) (ad : Nat → Nat) (σ : os_St) (x t : Int32) : os_MI l yX0_countUpTo cX0_countUpTo 5 .int (os_rm 0 0) (ox_A h ad) [.ref h, .int x, .int t] (ox_W D cI cZ h ad σ) (ox_W D cI cZ h ad σ) (os_count σ x t) := by
  refine ox_ei (by decide) rfl (Nat.le_of_ble_eq_true rfl) ?_
  intro pg e s m below meth c C hr hlk hO hS ls hl
  have hl : lv_has ls 5 [(0, .ref h), (1, .int x), (2, .int t)] := hl
  have loop : ∀ (n i k : Nat), i + n = 96 → os_cntF σ x t i = k → ∀ (H : Heap) (locs : List Loc), ox_P D cI cZ h ad σ H → va_S (ox_A h ad) s.heap H locs → ∀ ls : Array Slot, lv_has ls 5 [(0, .ref h), (1, .int x), (2, .int t), (3, .int (nI k)), (4, .int (nI i))] → W pg l e (os_rm 0 0) s m ([.ref h, .int x, .int t] : List Value).toArray below meth c H locs 0 0 (ox_QI below D cI cZ h ad σ (os_count σ x t) ([.ref h, .int x, .int t] : List Value).toArray s) (F0 m 5 ls []) := by
    intro n
    induction n with
    | zero =>
      intro i k hi hk H locs hO hS ls hl
      obtain rfl : i = 96 := by omega
      refine lv_iload C.1 C.2.1 dX0_countUpTo_5 (lv_at hl 4 rfl) ?_
      refine lv_bipush (v := 96) C.1 C.2.1 dX0_countUpTo_7 (by decide) ?_
      refine lv_icmp_ge (tgt := 53) C.1 C.2.1 dX0_countUpTo_9 (by decide) (fun c9 => ?_) (fun c9 => ?_)
      · have c9 := Int32.not_lt.mpr c9
        refine lv_iload_n C.1 C.2.1 dX0_countUpTo_53 rfl (lv_at hl 3 rfl) ?_
        exact ox_ri C hO hS (by rw [os_count, hk]) rfl hr hlk dX0_countUpTo_54
      · have c9 := Int32.not_le.mp c9
        exact absurd c9 (by decide)
    | succ n ih =>
      intro i k hi hk H locs hO hS ls hl
      refine lv_iload C.1 C.2.1 dX0_countUpTo_5 (lv_at hl 4 rfl) ?_
      refine lv_bipush (v := 96) C.1 C.2.1 dX0_countUpTo_7 (by decide) ?_
      refine lv_icmp_ge (tgt := 53) C.1 C.2.1 dX0_countUpTo_9 (by decide) (fun c9 => ?_) (fun c9 => ?_)
      · have c9 := Int32.not_lt.mpr c9
        exact absurd (nI_lt (a := i) (b := 96) (by omega) (by omega)) c9
      · have c9 := Int32.not_le.mp c9
        refine ox_g5 C hO (lv_at hl 0 rfl) dX0_countUpTo_12 dX0_countUpTo_13 ?_
        refine lv_iload C.1 C.2.1 dX0_countUpTo_16 (lv_at hl 4 rfl) ?_
        refine ox_l5 (j := i) C hO (nI_clamp (by omega)) (vp_in_nI (by omega) (by omega)) dX0_countUpTo_18 ?_
        refine lv_if_eq (tgt := 47) C.1 C.2.1 dX0_countUpTo_19 (by decide) (fun c19 => ?_) (fun c19 => ?_)
        · refine lv_iinc (v := nI (i + 1)) (lv' := [(4, .int (nI (i + 1))), (0, .ref h), (1, .int x), (2, .int t), (3, .int (nI k))]) C.1 C.2.1 dX0_countUpTo_47 hl (k := 4) rfl (nI_1 i) (by decide) rfl (fun ls hl => ?_)
          refine lv_goto (tgt := 5) C.1 C.2.1 dX0_countUpTo_50 (by decide) ?_
          exact ih (i + 1) k (by omega) (by rw [os_cntF, if_neg (fun q => q.1 c19), hk]) H locs hO hS ls (lv_sub hl [1, 2, 3, 4, 0] rfl)
        · refine ox_g7 C hO (lv_at hl 0 rfl) dX0_countUpTo_22 dX0_countUpTo_23 ?_
          refine lv_iload C.1 C.2.1 dX0_countUpTo_26 (lv_at hl 4 rfl) ?_
          refine ox_l7 (j := i) C hO (nI_clamp (by omega)) (vp_in_nI (by omega) (by omega)) dX0_countUpTo_28 ?_
          refine lv_iload_n C.1 C.2.1 dX0_countUpTo_29 rfl (lv_at hl 1 rfl) ?_
          refine lv_icmp_ne (tgt := 47) C.1 C.2.1 dX0_countUpTo_30 (by decide) (fun c30 => ?_) (fun c30 => ?_)
          · refine lv_iinc (v := nI (i + 1)) (lv' := [(4, .int (nI (i + 1))), (0, .ref h), (1, .int x), (2, .int t), (3, .int (nI k))]) C.1 C.2.1 dX0_countUpTo_47 hl (k := 4) rfl (nI_1 i) (by decide) rfl (fun ls hl => ?_)
            refine lv_goto (tgt := 5) C.1 C.2.1 dX0_countUpTo_50 (by decide) ?_
            exact ih (i + 1) k (by omega) (by rw [os_cntF, if_neg (fun q => c30 q.2.1), hk]) H locs hO hS ls (lv_sub hl [1, 2, 3, 4, 0] rfl)
          · refine ox_g6 C hO (lv_at hl 0 rfl) dX0_countUpTo_33 dX0_countUpTo_34 ?_
            refine lv_iload C.1 C.2.1 dX0_countUpTo_37 (lv_at hl 4 rfl) ?_
            refine ox_l6 (j := i) C hO (nI_clamp (by omega)) (vp_in_nI (by omega) (by omega)) dX0_countUpTo_39 ?_
            refine lv_iload_n C.1 C.2.1 dX0_countUpTo_40 rfl (lv_at hl 2 rfl) ?_
            refine lv_icmp_gt (tgt := 47) C.1 C.2.1 dX0_countUpTo_41 (by decide) (fun c41 => ?_) (fun c41 => ?_)
            · refine lv_iinc (v := nI (i + 1)) (lv' := [(4, .int (nI (i + 1))), (0, .ref h), (1, .int x), (2, .int t), (3, .int (nI k))]) C.1 C.2.1 dX0_countUpTo_47 hl (k := 4) rfl (nI_1 i) (by decide) rfl (fun ls hl => ?_)
              refine lv_goto (tgt := 5) C.1 C.2.1 dX0_countUpTo_50 (by decide) ?_
              exact ih (i + 1) k (by omega) (by rw [os_cntF, if_neg (fun q => Int32.not_lt.mpr q.2.2 c41), hk]) H locs hO hS ls (lv_sub hl [1, 2, 3, 4, 0] rfl)
            · refine lv_iinc (v := nI (k + 1)) (lv' := [(3, .int (nI (k + 1))), (0, .ref h), (1, .int x), (2, .int t), (4, .int (nI i))]) C.1 C.2.1 dX0_countUpTo_44 hl (k := 3) rfl (nI_1 k) (by decide) rfl (fun ls hl => ?_)
              refine lv_iinc (v := nI (i + 1)) (lv' := [(4, .int (nI (i + 1))), (3, .int (nI (k + 1))), (0, .ref h), (1, .int x), (2, .int t)]) C.1 C.2.1 dX0_countUpTo_47 hl (k := 4) rfl (nI_1 i) (by decide) rfl (fun ls hl => ?_)
              refine lv_goto (tgt := 5) C.1 C.2.1 dX0_countUpTo_50 (by decide) ?_
              exact ih (i + 1) (k + 1) (by omega) (by rw [os_cntF, if_pos ⟨c19, c30, Int32.not_lt.mp c41⟩, hk]) H locs hO hS ls (lv_sub hl [2, 3, 4, 1, 0] rfl)
  refine lv_iconst (v := 0) C.1 C.2.1 dX0_countUpTo_0 (by decide) ?_
  refine lv_istore_n (lv' := [(3, .int 0), (0, .ref h), (1, .int x), (2, .int t)]) C.1 C.2.1 dX0_countUpTo_1 rfl hl (by decide) rfl (fun ls hl => ?_)
  refine lv_iconst (v := 0) C.1 C.2.1 dX0_countUpTo_2 (by decide) ?_
  refine lv_istore (lv' := [(4, .int 0), (3, .int 0), (0, .ref h), (1, .int x), (2, .int t)]) C.1 C.2.1 dX0_countUpTo_3 hl (by decide) rfl (fun ls hl => ?_)
  exact loop 96 0 0 rfl rfl s.heap [] hO hS ls (lv_sub hl [2, 3, 4, 1, 0] rfl)
set_option maxHeartbeats 4000000 in
theorem mx_stateAt (l : Launch) (D : va_G) (cI cZ : ClassId) (h : Nat) (ad : Nat → Nat) (σ : os_St) (x t : Int32) (hx : vp_in x 4) : os_MI l yX0_stateAt cX0_stateAt 5 .int (os_rm 1 22) (ox_A h ad) [.ref h, .int x, .int t] (ox_W D cI cZ h ad σ) (ox_W D cI cZ h ad σ) (os_stateAt σ x t) := by
  refine ox_ei (by decide) rfl (Nat.le_of_ble_eq_true rfl) ?_
  intro pg e s m below meth c C hr hlk hO hS ls hl
  have hl : lv_has ls 5 [(0, .ref h), (1, .int x), (2, .int t)] := hl
  have loop : ∀ (n i : Nat) (ob : Option Nat), i + n = 96 → os_firstT σ x t i = ob → ∀ (H : Heap) (locs : List Loc), ox_P D cI cZ h ad σ H → va_S (ox_A h ad) s.heap H locs → ∀ ls : Array Slot, lv_has ls 5 [(0, .ref h), (1, .int x), (2, .int t), (3, .int (os_enc ob)), (4, .int (nI i))] → W pg l e (os_rm 1 22) s m ([.ref h, .int x, .int t] : List Value).toArray below meth c H locs 0 0 (ox_QI below D cI cZ h ad σ (os_stateAt σ x t) ([.ref h, .int x, .int t] : List Value).toArray s) (F0 m 5 ls []) := by
    intro n
    induction n with
    | zero =>
      intro i ob hi hob H locs hO hS ls hl
      obtain rfl : i = 96 := by omega
      cases ob with
      | none =>
        have hl : lv_has ls 5 [(0, .ref h), (1, .int x), (2, .int t), (3, .int (os_enc none)), (4, .int (nI 96))] := hl
        refine lv_iload C.1 C.2.1 dX0_stateAt_5 (lv_at hl 4 rfl) ?_
        refine lv_bipush (v := 96) C.1 C.2.1 dX0_stateAt_7 (by decide) ?_
        refine lv_icmp_ge (tgt := 77) C.1 C.2.1 dX0_stateAt_9 (by decide) (fun c9 => ?_) (fun c9 => ?_)
        · have c9 := Int32.not_lt.mpr c9
          refine lv_iload_n C.1 C.2.1 dX0_stateAt_77 rfl (lv_at hl 3 rfl) ?_
          refine lv_if_ge (tgt := 90) C.1 C.2.1 dX0_stateAt_78 (by decide) (fun c78 => ?_) (fun c78 => ?_)
          · have c78 := Int32.not_lt.mpr c78
            exact absurd os_m1neg c78
          · have c78 := Int32.not_le.mp c78
            refine ox_g13 C hO (lv_at hl 0 rfl) dX0_stateAt_81 dX0_stateAt_82 ?_
            refine lv_iload_n C.1 C.2.1 dX0_stateAt_85 rfl (lv_at hl 1 rfl) ?_
            refine ox_l13 (j := os_ix x) C hO rfl hx dX0_stateAt_86 ?_
            refine lv_goto (tgt := 96) C.1 C.2.1 dX0_stateAt_87 (by decide) ?_
            exact ox_ri C hO hS (by rw [os_stateAt, hob, os_at]) rfl hr hlk dX0_stateAt_96
        · have c9 := Int32.not_le.mp c9
          exact absurd c9 (by decide)
      | some b =>
        have hb96 : b < 96 := os_best_lt hob
        have hl : lv_has ls 5 [(0, .ref h), (1, .int x), (2, .int t), (3, .int (nI b)), (4, .int (nI 96))] := hl
        refine lv_iload C.1 C.2.1 dX0_stateAt_5 (lv_at hl 4 rfl) ?_
        refine lv_bipush (v := 96) C.1 C.2.1 dX0_stateAt_7 (by decide) ?_
        refine lv_icmp_ge (tgt := 77) C.1 C.2.1 dX0_stateAt_9 (by decide) (fun c9 => ?_) (fun c9 => ?_)
        · have c9 := Int32.not_lt.mpr c9
          refine lv_iload_n C.1 C.2.1 dX0_stateAt_77 rfl (lv_at hl 3 rfl) ?_
          refine lv_if_ge (tgt := 90) C.1 C.2.1 dX0_stateAt_78 (by decide) (fun c78 => ?_) (fun c78 => ?_)
          · have c78 := Int32.not_lt.mpr c78
            refine ox_g11 C hO (lv_at hl 0 rfl) dX0_stateAt_90 dX0_stateAt_91 ?_
            refine lv_iload_n C.1 C.2.1 dX0_stateAt_94 rfl (lv_at hl 3 rfl) ?_
            refine ox_l11 (j := b) C hO (nI_clamp (by omega)) (vp_in_nI (by omega) (by omega)) dX0_stateAt_95 ?_
            exact ox_ri C hO hS (by rw [os_stateAt, hob, os_at]) rfl hr hlk dX0_stateAt_96
          · have c78 := Int32.not_le.mp c78
            exact absurd c78 (os_nneg (by omega))
        · have c9 := Int32.not_le.mp c9
          exact absurd c9 (by decide)
    | succ n ih =>
      intro i ob hi hob H locs hO hS ls hl
      have hi96 : i < 96 := by omega
      cases ob with
      | none =>
        have hl : lv_has ls 5 [(0, .ref h), (1, .int x), (2, .int t), (3, .int (os_enc none)), (4, .int (nI i))] := hl
        refine lv_iload C.1 C.2.1 dX0_stateAt_5 (lv_at hl 4 rfl) ?_
        refine lv_bipush (v := 96) C.1 C.2.1 dX0_stateAt_7 (by decide) ?_
        refine lv_icmp_ge (tgt := 77) C.1 C.2.1 dX0_stateAt_9 (by decide) (fun c9 => ?_) (fun c9 => ?_)
        · have c9 := Int32.not_lt.mpr c9
          exact absurd (nI_lt (a := i) (b := 96) (by omega) (by omega)) c9
        · have c9 := Int32.not_le.mp c9
          refine ox_g5 C hO (lv_at hl 0 rfl) dX0_stateAt_12 dX0_stateAt_13 ?_
          refine lv_iload C.1 C.2.1 dX0_stateAt_16 (lv_at hl 4 rfl) ?_
          refine ox_l5 (j := i) C hO (nI_clamp (by omega)) (vp_in_nI (by omega) (by omega)) dX0_stateAt_18 ?_
          refine lv_if_eq (tgt := 71) C.1 C.2.1 dX0_stateAt_19 (by decide) (fun c19 => ?_) (fun c19 => ?_)
          · refine lv_iinc (v := nI (i + 1)) (lv' := [(4, .int (nI (i + 1))), (0, .ref h), (1, .int x), (2, .int t), (3, .int (os_enc none))]) C.1 C.2.1 dX0_stateAt_71 hl (k := 4) rfl (nI_1 i) (by decide) rfl (fun ls hl => ?_)
            refine lv_goto (tgt := 5) C.1 C.2.1 dX0_stateAt_74 (by decide) ?_
            exact ih (i + 1) none (by omega) ((os_best_k0 (by simp [os_okT, ← Int32.not_lt, c19])).trans hob) H locs hO hS ls (lv_sub hl [1, 2, 3, 4, 0] rfl)
          · refine ox_g10 C hO (lv_at hl 0 rfl) dX0_stateAt_22 dX0_stateAt_23 ?_
            refine lv_iload C.1 C.2.1 dX0_stateAt_26 (lv_at hl 4 rfl) ?_
            refine ox_l10 (j := i) C hO (nI_clamp (by omega)) (vp_in_nI (by omega) (by omega)) dX0_stateAt_28 ?_
            refine lv_if_eq (tgt := 71) C.1 C.2.1 dX0_stateAt_29 (by decide) (fun c29 => ?_) (fun c29 => ?_)
            · refine lv_iinc (v := nI (i + 1)) (lv' := [(4, .int (nI (i + 1))), (0, .ref h), (1, .int x), (2, .int t), (3, .int (os_enc none))]) C.1 C.2.1 dX0_stateAt_71 hl (k := 4) rfl (nI_1 i) (by decide) rfl (fun ls hl => ?_)
              refine lv_goto (tgt := 5) C.1 C.2.1 dX0_stateAt_74 (by decide) ?_
              exact ih (i + 1) none (by omega) ((os_best_k0 (by simp [os_okT, ← Int32.not_lt, c19, c29])).trans hob) H locs hO hS ls (lv_sub hl [1, 2, 3, 4, 0] rfl)
            · refine ox_g7 C hO (lv_at hl 0 rfl) dX0_stateAt_32 dX0_stateAt_33 ?_
              refine lv_iload C.1 C.2.1 dX0_stateAt_36 (lv_at hl 4 rfl) ?_
              refine ox_l7 (j := i) C hO (nI_clamp (by omega)) (vp_in_nI (by omega) (by omega)) dX0_stateAt_38 ?_
              refine lv_iload_n C.1 C.2.1 dX0_stateAt_39 rfl (lv_at hl 1 rfl) ?_
              refine lv_icmp_ne (tgt := 71) C.1 C.2.1 dX0_stateAt_40 (by decide) (fun c40 => ?_) (fun c40 => ?_)
              · refine lv_iinc (v := nI (i + 1)) (lv' := [(4, .int (nI (i + 1))), (0, .ref h), (1, .int x), (2, .int t), (3, .int (os_enc none))]) C.1 C.2.1 dX0_stateAt_71 hl (k := 4) rfl (nI_1 i) (by decide) rfl (fun ls hl => ?_)
                refine lv_goto (tgt := 5) C.1 C.2.1 dX0_stateAt_74 (by decide) ?_
                exact ih (i + 1) none (by omega) ((os_best_k0 (by simp [os_okT, ← Int32.not_lt, c19, c29, c40])).trans hob) H locs hO hS ls (lv_sub hl [1, 2, 3, 4, 0] rfl)
              · refine ox_g6 C hO (lv_at hl 0 rfl) dX0_stateAt_43 dX0_stateAt_44 ?_
                refine lv_iload C.1 C.2.1 dX0_stateAt_47 (lv_at hl 4 rfl) ?_
                refine ox_l6 (j := i) C hO (nI_clamp (by omega)) (vp_in_nI (by omega) (by omega)) dX0_stateAt_49 ?_
                refine lv_iload_n C.1 C.2.1 dX0_stateAt_50 rfl (lv_at hl 2 rfl) ?_
                refine lv_icmp_le (tgt := 71) C.1 C.2.1 dX0_stateAt_51 (by decide) (fun c51 => ?_) (fun c51 => ?_)
                · have c51 := Int32.not_lt.mpr c51
                  refine lv_iinc (v := nI (i + 1)) (lv' := [(4, .int (nI (i + 1))), (0, .ref h), (1, .int x), (2, .int t), (3, .int (os_enc none))]) C.1 C.2.1 dX0_stateAt_71 hl (k := 4) rfl (nI_1 i) (by decide) rfl (fun ls hl => ?_)
                  refine lv_goto (tgt := 5) C.1 C.2.1 dX0_stateAt_74 (by decide) ?_
                  exact ih (i + 1) none (by omega) ((os_best_k0 (by simp [os_okT, ← Int32.not_lt, c19, c29, c40, c51])).trans hob) H locs hO hS ls (lv_sub hl [1, 2, 3, 4, 0] rfl)
                · have c51 := Int32.not_le.mp c51
                  refine lv_iload_n C.1 C.2.1 dX0_stateAt_54 rfl (lv_at hl 3 rfl) ?_
                  refine lv_if_lt (tgt := 68) C.1 C.2.1 dX0_stateAt_55 (by decide) (fun c55 => ?_) (fun c55 => ?_)
                  · refine lv_iload C.1 C.2.1 dX0_stateAt_68 (lv_at hl 4 rfl) ?_
                    refine lv_istore_n (lv' := [(3, .int (nI i)), (0, .ref h), (1, .int x), (2, .int t), (4, .int (nI i))]) C.1 C.2.1 dX0_stateAt_70 rfl hl (by decide) rfl (fun ls hl => ?_)
                    refine lv_iinc (v := nI (i + 1)) (lv' := [(4, .int (nI (i + 1))), (3, .int (nI i)), (0, .ref h), (1, .int x), (2, .int t)]) C.1 C.2.1 dX0_stateAt_71 hl (k := 4) rfl (nI_1 i) (by decide) rfl (fun ls hl => ?_)
                    refine lv_goto (tgt := 5) C.1 C.2.1 dX0_stateAt_74 (by decide) ?_
                    exact ih (i + 1) (some i) (by omega) (os_best_t0 hob (by simp [os_okT, c19, c29, c40, c51])) H locs hO hS ls (lv_sub hl [2, 3, 4, 1, 0] rfl)
                  · exact absurd os_m1neg c55
      | some b =>
        have hb96 : b < i := os_best_lt hob
        have hl : lv_has ls 5 [(0, .ref h), (1, .int x), (2, .int t), (3, .int (nI b)), (4, .int (nI i))] := hl
        refine lv_iload C.1 C.2.1 dX0_stateAt_5 (lv_at hl 4 rfl) ?_
        refine lv_bipush (v := 96) C.1 C.2.1 dX0_stateAt_7 (by decide) ?_
        refine lv_icmp_ge (tgt := 77) C.1 C.2.1 dX0_stateAt_9 (by decide) (fun c9 => ?_) (fun c9 => ?_)
        · have c9 := Int32.not_lt.mpr c9
          exact absurd (nI_lt (a := i) (b := 96) (by omega) (by omega)) c9
        · have c9 := Int32.not_le.mp c9
          refine ox_g5 C hO (lv_at hl 0 rfl) dX0_stateAt_12 dX0_stateAt_13 ?_
          refine lv_iload C.1 C.2.1 dX0_stateAt_16 (lv_at hl 4 rfl) ?_
          refine ox_l5 (j := i) C hO (nI_clamp (by omega)) (vp_in_nI (by omega) (by omega)) dX0_stateAt_18 ?_
          refine lv_if_eq (tgt := 71) C.1 C.2.1 dX0_stateAt_19 (by decide) (fun c19 => ?_) (fun c19 => ?_)
          · refine lv_iinc (v := nI (i + 1)) (lv' := [(4, .int (nI (i + 1))), (0, .ref h), (1, .int x), (2, .int t), (3, .int (nI b))]) C.1 C.2.1 dX0_stateAt_71 hl (k := 4) rfl (nI_1 i) (by decide) rfl (fun ls hl => ?_)
            refine lv_goto (tgt := 5) C.1 C.2.1 dX0_stateAt_74 (by decide) ?_
            exact ih (i + 1) (some b) (by omega) ((os_best_k0 (by simp [os_okT, ← Int32.not_lt, c19])).trans hob) H locs hO hS ls (lv_sub hl [1, 2, 3, 4, 0] rfl)
          · refine ox_g10 C hO (lv_at hl 0 rfl) dX0_stateAt_22 dX0_stateAt_23 ?_
            refine lv_iload C.1 C.2.1 dX0_stateAt_26 (lv_at hl 4 rfl) ?_
            refine ox_l10 (j := i) C hO (nI_clamp (by omega)) (vp_in_nI (by omega) (by omega)) dX0_stateAt_28 ?_
            refine lv_if_eq (tgt := 71) C.1 C.2.1 dX0_stateAt_29 (by decide) (fun c29 => ?_) (fun c29 => ?_)
            · refine lv_iinc (v := nI (i + 1)) (lv' := [(4, .int (nI (i + 1))), (0, .ref h), (1, .int x), (2, .int t), (3, .int (nI b))]) C.1 C.2.1 dX0_stateAt_71 hl (k := 4) rfl (nI_1 i) (by decide) rfl (fun ls hl => ?_)
              refine lv_goto (tgt := 5) C.1 C.2.1 dX0_stateAt_74 (by decide) ?_
              exact ih (i + 1) (some b) (by omega) ((os_best_k0 (by simp [os_okT, ← Int32.not_lt, c19, c29])).trans hob) H locs hO hS ls (lv_sub hl [1, 2, 3, 4, 0] rfl)
            · refine ox_g7 C hO (lv_at hl 0 rfl) dX0_stateAt_32 dX0_stateAt_33 ?_
              refine lv_iload C.1 C.2.1 dX0_stateAt_36 (lv_at hl 4 rfl) ?_
              refine ox_l7 (j := i) C hO (nI_clamp (by omega)) (vp_in_nI (by omega) (by omega)) dX0_stateAt_38 ?_
              refine lv_iload_n C.1 C.2.1 dX0_stateAt_39 rfl (lv_at hl 1 rfl) ?_
              refine lv_icmp_ne (tgt := 71) C.1 C.2.1 dX0_stateAt_40 (by decide) (fun c40 => ?_) (fun c40 => ?_)
              · refine lv_iinc (v := nI (i + 1)) (lv' := [(4, .int (nI (i + 1))), (0, .ref h), (1, .int x), (2, .int t), (3, .int (nI b))]) C.1 C.2.1 dX0_stateAt_71 hl (k := 4) rfl (nI_1 i) (by decide) rfl (fun ls hl => ?_)
                refine lv_goto (tgt := 5) C.1 C.2.1 dX0_stateAt_74 (by decide) ?_
                exact ih (i + 1) (some b) (by omega) ((os_best_k0 (by simp [os_okT, ← Int32.not_lt, c19, c29, c40])).trans hob) H locs hO hS ls (lv_sub hl [1, 2, 3, 4, 0] rfl)
              · refine ox_g6 C hO (lv_at hl 0 rfl) dX0_stateAt_43 dX0_stateAt_44 ?_
                refine lv_iload C.1 C.2.1 dX0_stateAt_47 (lv_at hl 4 rfl) ?_
                refine ox_l6 (j := i) C hO (nI_clamp (by omega)) (vp_in_nI (by omega) (by omega)) dX0_stateAt_49 ?_
                refine lv_iload_n C.1 C.2.1 dX0_stateAt_50 rfl (lv_at hl 2 rfl) ?_
                refine lv_icmp_le (tgt := 71) C.1 C.2.1 dX0_stateAt_51 (by decide) (fun c51 => ?_) (fun c51 => ?_)
                · have c51 := Int32.not_lt.mpr c51
                  refine lv_iinc (v := nI (i + 1)) (lv' := [(4, .int (nI (i + 1))), (0, .ref h), (1, .int x), (2, .int t), (3, .int (nI b))]) C.1 C.2.1 dX0_stateAt_71 hl (k := 4) rfl (nI_1 i) (by decide) rfl (fun ls hl => ?_)
                  refine lv_goto (tgt := 5) C.1 C.2.1 dX0_stateAt_74 (by decide) ?_
                  exact ih (i + 1) (some b) (by omega) ((os_best_k0 (by simp [os_okT, ← Int32.not_lt, c19, c29, c40, c51])).trans hob) H locs hO hS ls (lv_sub hl [1, 2, 3, 4, 0] rfl)
                · have c51 := Int32.not_le.mp c51
                  refine lv_iload_n C.1 C.2.1 dX0_stateAt_54 rfl (lv_at hl 3 rfl) ?_
                  refine lv_if_lt (tgt := 68) C.1 C.2.1 dX0_stateAt_55 (by decide) (fun c55 => ?_) (fun c55 => ?_)
                  · exact absurd c55 (os_nneg (by omega))
                  · refine lv_aload_n C.1 C.2.1 dX0_stateAt_58 rfl (lv_at hl 0 rfl) ?_
                    refine lv_iload C.1 C.2.1 dX0_stateAt_59 (lv_at hl 4 rfl) ?_
                    refine lv_iload_n C.1 C.2.1 dX0_stateAt_61 rfl (lv_at hl 3 rfl) ?_
                    refine ox_ci (As := [.int (nI i), .int (nI b)]) (rest := []) C (mx_sooner l D cI cZ h ad σ i b (by omega) (by omega)) (cwV 2 C.2.2.2.2.1 (lw_V q124 q126 qs4 q23 q127) rfl rfl rfl (by decide +kernel) ⟨Nat.le_of_ble_eq_true rfl, Nat.le_of_ble_eq_true rfl⟩) hO hS rfl rfl hl.1 (Nat.le_of_ble_eq_true rfl) dX0_stateAt_62 ⟨Nat.zero_le _, Nat.zero_le _⟩ (fun H locs hO hS => ?_)
                    refine lv_if_eq (tgt := 71) C.1 C.2.1 dX0_stateAt_65 (by decide) (fun c65 => ?_) (fun c65 => ?_)
                    · refine lv_iinc (v := nI (i + 1)) (lv' := [(4, .int (nI (i + 1))), (0, .ref h), (1, .int x), (2, .int t), (3, .int (nI b))]) C.1 C.2.1 dX0_stateAt_71 hl (k := 4) rfl (nI_1 i) (by decide) rfl (fun ls hl => ?_)
                      refine lv_goto (tgt := 5) C.1 C.2.1 dX0_stateAt_74 (by decide) ?_
                      exact ih (i + 1) (some b) (by omega) (os_best_k1 hob (os_bit_f c65)) H locs hO hS ls (lv_sub hl [1, 2, 3, 4, 0] rfl)
                    · refine lv_iload C.1 C.2.1 dX0_stateAt_68 (lv_at hl 4 rfl) ?_
                      refine lv_istore_n (lv' := [(3, .int (nI i)), (0, .ref h), (1, .int x), (2, .int t), (4, .int (nI i))]) C.1 C.2.1 dX0_stateAt_70 rfl hl (by decide) rfl (fun ls hl => ?_)
                      refine lv_iinc (v := nI (i + 1)) (lv' := [(4, .int (nI (i + 1))), (3, .int (nI i)), (0, .ref h), (1, .int x), (2, .int t)]) C.1 C.2.1 dX0_stateAt_71 hl (k := 4) rfl (nI_1 i) (by decide) rfl (fun ls hl => ?_)
                      refine lv_goto (tgt := 5) C.1 C.2.1 dX0_stateAt_74 (by decide) ?_
                      exact ih (i + 1) (some i) (by omega) (os_best_t1 hob (by simp [os_okT, c19, c29, c40, c51]) (os_bit_t c65)) H locs hO hS ls (lv_sub hl [2, 3, 4, 1, 0] rfl)
  refine lv_iconst (v := -1) C.1 C.2.1 dX0_stateAt_0 (by decide) ?_
  refine lv_istore_n (lv' := [(3, .int (-1)), (0, .ref h), (1, .int x), (2, .int t)]) C.1 C.2.1 dX0_stateAt_1 rfl hl (by decide) rfl (fun ls hl => ?_)
  refine lv_iconst (v := 0) C.1 C.2.1 dX0_stateAt_2 (by decide) ?_
  refine lv_istore (lv' := [(4, .int 0), (3, .int (-1)), (0, .ref h), (1, .int x), (2, .int t)]) C.1 C.2.1 dX0_stateAt_3 hl (by decide) rfl (fun ls hl => ?_)
  exact loop 96 0 none rfl os_best_0 s.heap [] hO hS ls (lv_sub hl [2, 3, 4, 1, 0] rfl)
set_option maxHeartbeats 4000000 in
theorem mx_clear (l : Launch) (D : va_G) (cI cZ : ClassId) (h : Nat) (ad : Nat → Nat) (σ : os_St) : os_MV l yX0_clear cX0_clear 2 (os_rm 0 0) (ox_A h ad) [.ref h] (ox_W D cI cZ h ad σ) (ox_W D cI cZ h ad (os_clear σ)) := by
  refine ox_ev (by decide) rfl (Nat.le_of_ble_eq_true rfl) ?_
  intro pg e s m below meth c C hr hlk hO hS ls hl
  have hl : lv_has ls 2 [(0, .ref h)] := hl
  have loop2 : ∀ (n i : Nat), i + n = 4 → ∀ (H : Heap) (locs : List Loc), ox_P D cI cZ h ad (os_clr3 (os_clr2 (os_clr1 σ) 96) i) H → va_S (ox_A h ad) s.heap H locs → ∀ ls : Array Slot, lv_has ls 2 [(0, .ref h), (1, .int (nI i))] → W pg l e (os_rm 0 0) s m ([.ref h] : List Value).toArray below meth c H locs 0 0 (ox_QV below D cI cZ h ad (os_clear σ) ([.ref h] : List Value).toArray s) (F0 m 43 ls []) := by
    intro n
    induction n with
    | zero =>
      intro i hi H locs hO hS ls hl
      obtain rfl : i = 4 := by omega
      refine lv_iload_n C.1 C.2.1 dX0_clear_43 rfl (lv_at hl 1 rfl) ?_
      refine lv_iconst (v := 4) C.1 C.2.1 dX0_clear_44 (by decide) ?_
      refine lv_icmp_ge (tgt := 75) C.1 C.2.1 dX0_clear_45 (by decide) (fun c45 => ?_) (fun c45 => ?_)
      · have c45 := Int32.not_lt.mpr c45
        exact ox_rv C hO hS rfl hr hlk dX0_clear_75
      · have c45 := Int32.not_le.mp c45
        exact absurd c45 (by decide)
    | succ n ih =>
      intro i hi H locs hO hS ls hl
      refine lv_iload_n C.1 C.2.1 dX0_clear_43 rfl (lv_at hl 1 rfl) ?_
      refine lv_iconst (v := 4) C.1 C.2.1 dX0_clear_44 (by decide) ?_
      refine lv_icmp_ge (tgt := 75) C.1 C.2.1 dX0_clear_45 (by decide) (fun c45 => ?_) (fun c45 => ?_)
      · have c45 := Int32.not_lt.mpr c45
        exact absurd (nI_lt (a := i) (b := 4) (by omega) (by omega)) c45
      · have c45 := Int32.not_le.mp c45
        refine ox_g13 C hO (lv_at hl 0 rfl) dX0_clear_48 dX0_clear_49 ?_
        refine lv_iload_n C.1 C.2.1 dX0_clear_52 rfl (lv_at hl 1 rfl) ?_
        refine lv_iconst (v := 0) C.1 C.2.1 dX0_clear_53 (by decide) ?_
        refine ox_s13 (j := i) C hO hS (nI_clamp (by omega)) (vp_in_nI (by omega) (by omega)) dX0_clear_54 (fun H locs hO hS => ?_)
        refine ox_g14 C hO (lv_at hl 0 rfl) dX0_clear_55 dX0_clear_56 ?_
        refine lv_iload_n C.1 C.2.1 dX0_clear_59 rfl (lv_at hl 1 rfl) ?_
        refine lv_iconst (v := 0) C.1 C.2.1 dX0_clear_60 (by decide) ?_
        refine ox_s14 (j := i) C hO hS (nI_clamp (by omega)) (vp_in_nI (by omega) (by omega)) dX0_clear_61 (fun H locs hO hS => ?_)
        refine ox_g15 C hO (lv_at hl 0 rfl) dX0_clear_62 dX0_clear_63 ?_
        refine lv_iload_n C.1 C.2.1 dX0_clear_66 rfl (lv_at hl 1 rfl) ?_
        refine lv_iconst (v := 0) C.1 C.2.1 dX0_clear_67 (by decide) ?_
        refine ox_s15 (j := i) C hO hS (nI_clamp (by omega)) (vp_in_nI (by omega) (by omega)) dX0_clear_68 (fun H locs hO hS => ?_)
        refine lv_iinc (v := nI (i + 1)) (lv' := [(1, .int (nI (i + 1))), (0, .ref h)]) C.1 C.2.1 dX0_clear_69 hl (k := 1) rfl (nI_1 i) (by decide) rfl (fun ls hl => ?_)
        refine lv_goto (tgt := 43) C.1 C.2.1 dX0_clear_72 (by decide) ?_
        exact ih (i + 1) (by omega) H locs hO hS ls (lv_sub hl [1, 0] rfl)
  have loop1 : ∀ (n i : Nat), i + n = 96 → ∀ (H : Heap) (locs : List Loc), ox_P D cI cZ h ad (os_clr2 (os_clr1 σ) i) H → va_S (ox_A h ad) s.heap H locs → ∀ ls : Array Slot, lv_has ls 2 [(0, .ref h), (1, .int (nI i))] → W pg l e (os_rm 0 0) s m ([.ref h] : List Value).toArray below meth c H locs 0 0 (ox_QV below D cI cZ h ad (os_clear σ) ([.ref h] : List Value).toArray s) (F0 m 22 ls []) := by
    intro n
    induction n with
    | zero =>
      intro i hi H locs hO hS ls hl
      obtain rfl : i = 96 := by omega
      refine lv_iload_n C.1 C.2.1 dX0_clear_22 rfl (lv_at hl 1 rfl) ?_
      refine lv_bipush (v := 96) C.1 C.2.1 dX0_clear_23 (by decide) ?_
      refine lv_icmp_ge (tgt := 41) C.1 C.2.1 dX0_clear_25 (by decide) (fun c25 => ?_) (fun c25 => ?_)
      · have c25 := Int32.not_lt.mpr c25
        refine lv_iconst (v := 0) C.1 C.2.1 dX0_clear_41 (by decide) ?_
        refine lv_istore_n (lv' := [(1, .int 0), (0, .ref h)]) C.1 C.2.1 dX0_clear_42 rfl hl (by decide) rfl (fun ls hl => ?_)
        exact loop2 4 0 rfl H locs hO hS ls (lv_sub hl [1, 0] rfl)
      · have c25 := Int32.not_le.mp c25
        exact absurd c25 (by decide)
    | succ n ih =>
      intro i hi H locs hO hS ls hl
      refine lv_iload_n C.1 C.2.1 dX0_clear_22 rfl (lv_at hl 1 rfl) ?_
      refine lv_bipush (v := 96) C.1 C.2.1 dX0_clear_23 (by decide) ?_
      refine lv_icmp_ge (tgt := 41) C.1 C.2.1 dX0_clear_25 (by decide) (fun c25 => ?_) (fun c25 => ?_)
      · have c25 := Int32.not_lt.mpr c25
        exact absurd (nI_lt (a := i) (b := 96) (by omega) (by omega)) c25
      · have c25 := Int32.not_le.mp c25
        refine ox_g5 C hO (lv_at hl 0 rfl) dX0_clear_28 dX0_clear_29 ?_
        refine lv_iload_n C.1 C.2.1 dX0_clear_32 rfl (lv_at hl 1 rfl) ?_
        refine lv_iconst (v := 0) C.1 C.2.1 dX0_clear_33 (by decide) ?_
        refine ox_s5 (j := i) C hO hS (nI_clamp (by omega)) (vp_in_nI (by omega) (by omega)) os_nz0 dX0_clear_34 (fun H locs hO hS => ?_)
        refine lv_iinc (v := nI (i + 1)) (lv' := [(1, .int (nI (i + 1))), (0, .ref h)]) C.1 C.2.1 dX0_clear_35 hl (k := 1) rfl (nI_1 i) (by decide) rfl (fun ls hl => ?_)
        refine lv_goto (tgt := 22) C.1 C.2.1 dX0_clear_38 (by decide) ?_
        exact ih (i + 1) (by omega) H locs hO hS ls (lv_sub hl [1, 0] rfl)
  refine lv_aload_n C.1 C.2.1 dX0_clear_0 rfl (lv_at hl 0 rfl) ?_
  refine lv_iconst (v := 0) C.1 C.2.1 dX0_clear_1 (by decide) ?_
  refine ox_p3 C hO hS dX0_clear_2 (fun H locs hO hS => ?_)
  refine lv_aload_n C.1 C.2.1 dX0_clear_5 rfl (lv_at hl 0 rfl) ?_
  refine lv_iconst (v := -1) C.1 C.2.1 dX0_clear_6 (by decide) ?_
  refine ox_p4 C hO hS dX0_clear_7 (fun H locs hO hS => ?_)
  refine lv_aload_n C.1 C.2.1 dX0_clear_10 rfl (lv_at hl 0 rfl) ?_
  refine lv_iconst (v := -1) C.1 C.2.1 dX0_clear_11 (by decide) ?_
  refine ox_p16 C hO hS dX0_clear_12 (fun H locs hO hS => ?_)
  refine lv_aload_n C.1 C.2.1 dX0_clear_15 rfl (lv_at hl 0 rfl) ?_
  refine lv_iconst (v := 0) C.1 C.2.1 dX0_clear_16 (by decide) ?_
  refine ox_p18 C hO hS dX0_clear_17 (fun H locs hO hS => ?_)
  refine lv_iconst (v := 0) C.1 C.2.1 dX0_clear_20 (by decide) ?_
  refine lv_istore_n (lv' := [(1, .int 0), (0, .ref h)]) C.1 C.2.1 dX0_clear_21 rfl hl (by decide) rfl (fun ls hl => ?_)
  exact loop1 96 0 rfl H locs hO hS ls (lv_sub hl [1, 0] rfl)
set_option maxHeartbeats 4000000 in
theorem mx_badT (l : Launch) (D : va_G) (cI cZ : ClassId) (h : Nat) (ad : Nat → Nat) (σ : os_St) (t : Int32) : os_MI l yX0_badTime cX0_badTime 2 .boolean (os_rm 0 0) (ox_A h ad) [.ref h, .int t] (ox_W D cI cZ h ad σ) (ox_W D cI cZ h ad σ) (os_bit (os_badT σ t)) := by
  refine ox_ei (by decide) rfl (Nat.le_of_ble_eq_true rfl) ?_
  intro pg e s m below meth c C hr hlk hO hS ls hl
  have hl : lv_has ls 2 [(0, .ref h), (1, .int t)] := hl
  refine lv_iload_n C.1 C.2.1 dX0_badTime_0 rfl (lv_at hl 1 rfl) ?_
  refine ox_g4 C hO (lv_at hl 0 rfl) dX0_badTime_1 dX0_badTime_2 ?_
  refine lv_icmp_lt (tgt := 15) C.1 C.2.1 dX0_badTime_5 (by decide) (fun c5 => ?_) (fun c5 => ?_)
  · refine lv_iconst (v := 1) C.1 C.2.1 dX0_badTime_15 (by decide) ?_
    refine lv_goto (tgt := 20) C.1 C.2.1 dX0_badTime_16 (by decide) ?_
    exact ox_rz C hO hS (by simp [os_badT, os_bit, ← Int32.not_lt, c5]) rfl rfl hr hlk dX0_badTime_20
  · refine lv_iload_n C.1 C.2.1 dX0_badTime_8 rfl (lv_at hl 1 rfl) ?_
    refine lv_sipush (v := 200) C.1 C.2.1 dX0_badTime_9 (by decide) ?_
    refine lv_icmp_le (tgt := 19) C.1 C.2.1 dX0_badTime_12 (by decide) (fun c12 => ?_) (fun c12 => ?_)
    · have c12 := Int32.not_lt.mpr c12
      refine lv_iconst (v := 0) C.1 C.2.1 dX0_badTime_19 (by decide) ?_
      exact ox_rz C hO hS (by simp [os_badT, os_bit, ← Int32.not_lt, c5, c12]) rfl rfl hr hlk dX0_badTime_20
    · have c12 := Int32.not_le.mp c12
      refine lv_iconst (v := 1) C.1 C.2.1 dX0_badTime_15 (by decide) ?_
      refine lv_goto (tgt := 20) C.1 C.2.1 dX0_badTime_16 (by decide) ?_
      exact ox_rz C hO hS (by simp [os_badT, os_bit, ← Int32.not_lt, c5, c12]) rfl rfl hr hlk dX0_badTime_20
set_option maxHeartbeats 4000000 in
theorem mx_state (l : Launch) (D : va_G) (cI cZ : ClassId) (h : Nat) (ad : Nat → Nat) (σ : os_St) (x t : Int32) (hbd : os_bd 96 σ) (h0 : σ 18 0 = 0) : os_MI l yX0_state cX0_state 3 .int (os_rm 7 157) (ox_A h ad) [.ref h, .int x, .int t] (ox_W D cI cZ h ad σ) (ox_W D cI cZ h ad ((os_state σ x t).2)) ((os_state σ x t).1) := by
  refine ox_ei (by decide) rfl (Nat.le_of_ble_eq_true rfl) ?_
  intro pg e s m below meth c C hr hlk hO hS ls hl
  have hl : lv_has ls 3 [(0, .ref h), (1, .int x), (2, .int t)] := hl
  refine lv_iload_n C.1 C.2.1 dX0_state_0 rfl (lv_at hl 1 rfl) ?_
  refine ox_cs (As := [.int x]) (rest := []) C (mx_badP l D cI cZ h ad σ x) (va_cwS 1 C.2.2.2.2.1 (lw_S q101 q102 q23 q103) rfl rfl rfl (by decide +kernel) ⟨Nat.le_of_ble_eq_true rfl, Nat.le_of_ble_eq_true rfl⟩) hO hS rfl rfl hl.1 (Nat.le_of_ble_eq_true rfl) dX0_state_1 ⟨Nat.zero_le _, Nat.zero_le _⟩ (fun H locs hO hS => ?_)
  refine lv_if_ne (tgt := 15) C.1 C.2.1 dX0_state_4 (by decide) (fun c4 => ?_) (fun c4 => ?_)
  · refine lv_iconst (v := 0) C.1 C.2.1 dX0_state_15 (by decide) ?_
    exact ox_ri C hO hS (by rw [os_state, if_pos (Or.inl (os_bit_t c4))]) (by rw [os_state, if_pos (Or.inl (os_bit_t c4))]) hr hlk dX0_state_16
  · refine lv_aload_n C.1 C.2.1 dX0_state_7 rfl (lv_at hl 0 rfl) ?_
    refine lv_iload_n C.1 C.2.1 dX0_state_8 rfl (lv_at hl 2 rfl) ?_
    refine ox_ci (As := [.int t]) (rest := []) C (mx_badT l D cI cZ h ad σ t) (cwV 1 C.2.2.2.2.1 (lw_V q173 q175 qs13 q23 q176) rfl rfl rfl (by decide +kernel) ⟨Nat.le_of_ble_eq_true rfl, Nat.le_of_ble_eq_true rfl⟩) hO hS rfl rfl hl.1 (Nat.le_of_ble_eq_true rfl) dX0_state_9 ⟨Nat.zero_le _, Nat.zero_le _⟩ (fun H locs hO hS => ?_)
    refine lv_if_eq (tgt := 17) C.1 C.2.1 dX0_state_12 (by decide) (fun c12 => ?_) (fun c12 => ?_)
    · have hx : vp_in x 4 := os_badP_in (os_bit_f c4)
      refine lv_iload_n C.1 C.2.1 dX0_state_17 rfl (lv_at hl 2 rfl) ?_
      refine ox_g4 C hO (lv_at hl 0 rfl) dX0_state_18 dX0_state_19 ?_
      refine lv_icmp_ne (tgt := 32) C.1 C.2.1 dX0_state_22 (by decide) (fun c22 => ?_) (fun c22 => ?_)
      · refine lv_aload_n C.1 C.2.1 dX0_state_32 rfl (lv_at hl 0 rfl) ?_
        refine lv_iload_n C.1 C.2.1 dX0_state_33 rfl (lv_at hl 2 rfl) ?_
        refine ox_cv (As := [.int t]) (rest := []) C (mx_reach l D cI cZ h ad σ t hbd h0) (cwV 1 C.2.2.2.2.1 (lw_V q152 q154 qs9 q23 q155) rfl rfl rfl (by decide +kernel) ⟨Nat.le_of_ble_eq_true rfl, Nat.le_of_ble_eq_true rfl⟩) hO hS rfl rfl hl.1 (Nat.le_of_ble_eq_true rfl) dX0_state_34 ⟨Nat.zero_le _, Nat.zero_le _⟩ (fun H locs hO hS => ?_)
        refine lv_aload_n C.1 C.2.1 dX0_state_37 rfl (lv_at hl 0 rfl) ?_
        refine lv_iload_n C.1 C.2.1 dX0_state_38 rfl (lv_at hl 1 rfl) ?_
        refine lv_iload_n C.1 C.2.1 dX0_state_39 rfl (lv_at hl 2 rfl) ?_
        refine ox_ci (As := [.int x, .int t]) (rest := []) C (mx_stateAt l D cI cZ h ad (os_reach σ t) x t hx) (cwV 2 C.2.2.2.2.1 (lw_V q160 q162 qs11 q23 q163) rfl rfl rfl (by decide +kernel) ⟨Nat.le_of_ble_eq_true rfl, Nat.le_of_ble_eq_true rfl⟩) hO hS rfl rfl hl.1 (Nat.le_of_ble_eq_true rfl) dX0_state_40 ⟨Nat.zero_le _, Nat.zero_le _⟩ (fun H locs hO hS => ?_)
        exact ox_ri C hO hS (by rw [os_state, if_neg (fun q => q.elim (fun q => by rw [os_bit_f c4] at q; cases q) (fun q => by rw [os_bit_f c12] at q; cases q)), if_neg c22]) (by rw [os_state, if_neg (fun q => q.elim (fun q => by rw [os_bit_f c4] at q; cases q) (fun q => by rw [os_bit_f c12] at q; cases q)), if_neg c22]) hr hlk dX0_state_43
      · refine ox_g14 C hO (lv_at hl 0 rfl) dX0_state_25 dX0_state_26 ?_
        refine lv_iload_n C.1 C.2.1 dX0_state_29 rfl (lv_at hl 1 rfl) ?_
        refine ox_l14 (j := os_ix x) C hO rfl hx dX0_state_30 ?_
        exact ox_ri C hO hS (by rw [os_state, if_neg (fun q => q.elim (fun q => by rw [os_bit_f c4] at q; cases q) (fun q => by rw [os_bit_f c12] at q; cases q)), if_pos c22]) (by rw [os_state, if_neg (fun q => q.elim (fun q => by rw [os_bit_f c4] at q; cases q) (fun q => by rw [os_bit_f c12] at q; cases q)), if_pos c22]) hr hlk dX0_state_31
    · refine lv_iconst (v := 0) C.1 C.2.1 dX0_state_15 (by decide) ?_
      exact ox_ri C hO hS (by rw [os_state, if_pos (Or.inr (os_bit_t c12))]) (by rw [os_state, if_pos (Or.inr (os_bit_t c12))]) hr hlk dX0_state_16
set_option maxHeartbeats 4000000 in
theorem mx_handled (l : Launch) (D : va_G) (cI cZ : ClassId) (h : Nat) (ad : Nat → Nat) (σ : os_St) (x t : Int32) (hbd : os_bd 96 σ) (h0 : σ 18 0 = 0) : os_MI l yX0_handled cX0_handled 3 .int (os_rm 7 157) (ox_A h ad) [.ref h, .int x, .int t] (ox_W D cI cZ h ad σ) (ox_W D cI cZ h ad ((os_handled σ x t).2)) ((os_handled σ x t).1) := by
  refine ox_ei (by decide) rfl (Nat.le_of_ble_eq_true rfl) ?_
  intro pg e s m below meth c C hr hlk hO hS ls hl
  have hl : lv_has ls 3 [(0, .ref h), (1, .int x), (2, .int t)] := hl
  refine lv_iload_n C.1 C.2.1 dX0_handled_0 rfl (lv_at hl 1 rfl) ?_
  refine ox_cs (As := [.int x]) (rest := []) C (mx_badP l D cI cZ h ad σ x) (va_cwS 1 C.2.2.2.2.1 (lw_S q101 q102 q23 q103) rfl rfl rfl (by decide +kernel) ⟨Nat.le_of_ble_eq_true rfl, Nat.le_of_ble_eq_true rfl⟩) hO hS rfl rfl hl.1 (Nat.le_of_ble_eq_true rfl) dX0_handled_1 ⟨Nat.zero_le _, Nat.zero_le _⟩ (fun H locs hO hS => ?_)
  refine lv_if_eq (tgt := 9) C.1 C.2.1 dX0_handled_4 (by decide) (fun c4 => ?_) (fun c4 => ?_)
  · refine lv_aload_n C.1 C.2.1 dX0_handled_9 rfl (lv_at hl 0 rfl) ?_
    refine lv_iload_n C.1 C.2.1 dX0_handled_10 rfl (lv_at hl 2 rfl) ?_
    refine ox_ci (As := [.int t]) (rest := []) C (mx_badT l D cI cZ h ad σ t) (cwV 1 C.2.2.2.2.1 (lw_V q173 q175 qs13 q23 q176) rfl rfl rfl (by decide +kernel) ⟨Nat.le_of_ble_eq_true rfl, Nat.le_of_ble_eq_true rfl⟩) hO hS rfl rfl hl.1 (Nat.le_of_ble_eq_true rfl) dX0_handled_11 ⟨Nat.zero_le _, Nat.zero_le _⟩ (fun H locs hO hS => ?_)
    refine lv_if_eq (tgt := 20) C.1 C.2.1 dX0_handled_14 (by decide) (fun c14 => ?_) (fun c14 => ?_)
    · have hx : vp_in x 4 := os_badP_in (os_bit_f c4)
      refine lv_aload_n C.1 C.2.1 dX0_handled_20 rfl (lv_at hl 0 rfl) ?_
      refine lv_iload_n C.1 C.2.1 dX0_handled_21 rfl (lv_at hl 2 rfl) ?_
      refine ox_cv (As := [.int t]) (rest := []) C (mx_reach l D cI cZ h ad σ t hbd h0) (cwV 1 C.2.2.2.2.1 (lw_V q152 q154 qs9 q23 q155) rfl rfl rfl (by decide +kernel) ⟨Nat.le_of_ble_eq_true rfl, Nat.le_of_ble_eq_true rfl⟩) hO hS rfl rfl hl.1 (Nat.le_of_ble_eq_true rfl) dX0_handled_22 ⟨Nat.zero_le _, Nat.zero_le _⟩ (fun H locs hO hS => ?_)
      refine ox_g15 C hO (lv_at hl 0 rfl) dX0_handled_25 dX0_handled_26 ?_
      refine lv_iload_n C.1 C.2.1 dX0_handled_29 rfl (lv_at hl 1 rfl) ?_
      refine ox_l15 (j := os_ix x) C hO rfl hx dX0_handled_30 ?_
      refine lv_aload_n C.1 C.2.1 dX0_handled_31 rfl (lv_at hl 0 rfl) ?_
      refine lv_iload_n C.1 C.2.1 dX0_handled_32 rfl (lv_at hl 1 rfl) ?_
      refine lv_iload_n C.1 C.2.1 dX0_handled_33 rfl (lv_at hl 2 rfl) ?_
      refine ox_ci (As := [.int x, .int t]) (rest := [.int ((os_reach σ t) 15 (os_ix x))]) C (mx_count l D cI cZ h ad (os_reach σ t) x t) (cwV 2 C.2.2.2.2.1 (lw_V q164 q166 qs12 q23 q167) rfl rfl rfl (by decide +kernel) ⟨Nat.le_of_ble_eq_true rfl, Nat.le_of_ble_eq_true rfl⟩) hO hS rfl rfl hl.1 (Nat.le_of_ble_eq_true rfl) dX0_handled_34 ⟨Nat.zero_le _, Nat.zero_le _⟩ (fun H locs hO hS => ?_)
      refine lv_iadd C.1 C.2.1 dX0_handled_37 ?_
      exact ox_ri C hO hS (by rw [os_handled, if_neg (fun q => by rw [os_bit_f c4] at q; cases q), if_neg (fun q => by rw [os_bit_f c14] at q; cases q)]) (by rw [os_handled, if_neg (fun q => by rw [os_bit_f c4] at q; cases q), if_neg (fun q => by rw [os_bit_f c14] at q; cases q)]) hr hlk dX0_handled_38
    · refine lv_bipush (v := -4) C.1 C.2.1 dX0_handled_17 (by decide) ?_
      exact ox_ri C hO hS (by rw [os_handled, if_neg (fun q => by rw [os_bit_f c4] at q; cases q), if_pos (os_bit_t c14)]) (by rw [os_handled, if_neg (fun q => by rw [os_bit_f c4] at q; cases q), if_pos (os_bit_t c14)]) hr hlk dX0_handled_19
  · refine lv_iconst (v := -1) C.1 C.2.1 dX0_handled_7 (by decide) ?_
    exact ox_ri C hO hS (by rw [os_handled, if_pos (os_bit_t c4)]) (by rw [os_handled, if_pos (os_bit_t c4)]) hr hlk dX0_handled_8
set_option maxHeartbeats 4000000 in
theorem mx_lastTime (l : Launch) (D : va_G) (cI cZ : ClassId) (h : Nat) (ad : Nat → Nat) (σ : os_St) (hbd : os_bd 96 σ) (h0 : σ 18 0 = 0) : os_MI l yX0_lastTime cX0_lastTime 3 .int (os_rm 7 157) (ox_A h ad) [.ref h] (ox_W D cI cZ h ad σ) (ox_W D cI cZ h ad ((os_lastTime σ).2)) ((os_lastTime σ).1) := by
  refine ox_ei (by decide) rfl (Nat.le_of_ble_eq_true rfl) ?_
  intro pg e s m below meth c C hr hlk hO hS ls hl
  have hl : lv_has ls 3 [(0, .ref h)] := hl
  have loop : ∀ (n i : Nat) (k : Int32), i + n = 96 → os_mostF (os_reach σ 200) i = k → ∀ (H : Heap) (locs : List Loc), ox_P D cI cZ h ad (os_reach σ 200) H → va_S (ox_A h ad) s.heap H locs → ∀ ls : Array Slot, lv_has ls 3 [(0, .ref h), (1, .int k), (2, .int (nI i))] → W pg l e (os_rm 7 157) s m ([.ref h] : List Value).toArray below meth c H locs 0 0 (ox_QI below D cI cZ h ad ((os_lastTime σ).2) ((os_lastTime σ).1) ([.ref h] : List Value).toArray s) (F0 m 14 ls []) := by
    intro n
    induction n with
    | zero =>
      intro i k hi hk H locs hO hS ls hl
      obtain rfl : i = 96 := by omega
      refine lv_iload_n C.1 C.2.1 dX0_lastTime_14 rfl (lv_at hl 2 rfl) ?_
      refine lv_bipush (v := 96) C.1 C.2.1 dX0_lastTime_15 (by decide) ?_
      refine lv_icmp_ge (tgt := 52) C.1 C.2.1 dX0_lastTime_17 (by decide) (fun c17 => ?_) (fun c17 => ?_)
      · have c17 := Int32.not_lt.mpr c17
        refine lv_iload_n C.1 C.2.1 dX0_lastTime_52 rfl (lv_at hl 1 rfl) ?_
        exact ox_ri C hO hS hk.symm rfl hr hlk dX0_lastTime_53
      · have c17 := Int32.not_le.mp c17
        exact absurd c17 (by decide)
    | succ n ih =>
      intro i k hi hk H locs hO hS ls hl
      refine lv_iload_n C.1 C.2.1 dX0_lastTime_14 rfl (lv_at hl 2 rfl) ?_
      refine lv_bipush (v := 96) C.1 C.2.1 dX0_lastTime_15 (by decide) ?_
      refine lv_icmp_ge (tgt := 52) C.1 C.2.1 dX0_lastTime_17 (by decide) (fun c17 => ?_) (fun c17 => ?_)
      · have c17 := Int32.not_lt.mpr c17
        exact absurd (nI_lt (a := i) (b := 96) (by omega) (by omega)) c17
      · have c17 := Int32.not_le.mp c17
        refine ox_g5 C hO (lv_at hl 0 rfl) dX0_lastTime_20 dX0_lastTime_21 ?_
        refine lv_iload_n C.1 C.2.1 dX0_lastTime_24 rfl (lv_at hl 2 rfl) ?_
        refine ox_l5 (j := i) C hO (nI_clamp (by omega)) (vp_in_nI (by omega) (by omega)) dX0_lastTime_25 ?_
        refine lv_if_eq (tgt := 46) C.1 C.2.1 dX0_lastTime_26 (by decide) (fun c26 => ?_) (fun c26 => ?_)
        · refine lv_iinc (v := nI (i + 1)) (lv' := [(2, .int (nI (i + 1))), (0, .ref h), (1, .int k)]) C.1 C.2.1 dX0_lastTime_46 hl (k := 2) rfl (nI_1 i) (by decide) rfl (fun ls hl => ?_)
          refine lv_goto (tgt := 14) C.1 C.2.1 dX0_lastTime_49 (by decide) ?_
          exact ih (i + 1) k (by omega) (by rw [os_mostF, hk, if_neg (fun q => q.1 c26)]) H locs hO hS ls (lv_sub hl [1, 2, 0] rfl)
        · refine ox_g6 C hO (lv_at hl 0 rfl) dX0_lastTime_29 dX0_lastTime_30 ?_
          refine lv_iload_n C.1 C.2.1 dX0_lastTime_33 rfl (lv_at hl 2 rfl) ?_
          refine ox_l6 (j := i) C hO (nI_clamp (by omega)) (vp_in_nI (by omega) (by omega)) dX0_lastTime_34 ?_
          refine lv_iload_n C.1 C.2.1 dX0_lastTime_35 rfl (lv_at hl 1 rfl) ?_
          refine lv_icmp_le (tgt := 46) C.1 C.2.1 dX0_lastTime_36 (by decide) (fun c36 => ?_) (fun c36 => ?_)
          · have c36 := Int32.not_lt.mpr c36
            refine lv_iinc (v := nI (i + 1)) (lv' := [(2, .int (nI (i + 1))), (0, .ref h), (1, .int k)]) C.1 C.2.1 dX0_lastTime_46 hl (k := 2) rfl (nI_1 i) (by decide) rfl (fun ls hl => ?_)
            refine lv_goto (tgt := 14) C.1 C.2.1 dX0_lastTime_49 (by decide) ?_
            exact ih (i + 1) k (by omega) (by rw [os_mostF, hk, if_neg (fun q => c36 q.2)]) H locs hO hS ls (lv_sub hl [1, 2, 0] rfl)
          · have c36 := Int32.not_le.mp c36
            refine ox_g6 C hO (lv_at hl 0 rfl) dX0_lastTime_39 dX0_lastTime_40 ?_
            refine lv_iload_n C.1 C.2.1 dX0_lastTime_43 rfl (lv_at hl 2 rfl) ?_
            refine ox_l6 (j := i) C hO (nI_clamp (by omega)) (vp_in_nI (by omega) (by omega)) dX0_lastTime_44 ?_
            refine lv_istore_n (lv' := [(1, .int ((os_reach σ 200) 6 i)), (0, .ref h), (2, .int (nI i))]) C.1 C.2.1 dX0_lastTime_45 rfl hl (by decide) rfl (fun ls hl => ?_)
            refine lv_iinc (v := nI (i + 1)) (lv' := [(2, .int (nI (i + 1))), (1, .int ((os_reach σ 200) 6 i)), (0, .ref h)]) C.1 C.2.1 dX0_lastTime_46 hl (k := 2) rfl (nI_1 i) (by decide) rfl (fun ls hl => ?_)
            refine lv_goto (tgt := 14) C.1 C.2.1 dX0_lastTime_49 (by decide) ?_
            exact ih (i + 1) _ (by omega) (by rw [os_mostF, hk, if_pos ⟨c26, c36⟩]) H locs hO hS ls (lv_sub hl [2, 1, 0] rfl)
  refine lv_aload_n C.1 C.2.1 dX0_lastTime_0 rfl (lv_at hl 0 rfl) ?_
  refine lv_sipush (v := 200) C.1 C.2.1 dX0_lastTime_1 (by decide) ?_
  refine ox_cv (As := [.int 200]) (rest := []) C (mx_reach l D cI cZ h ad σ 200 hbd h0) (cwV 1 C.2.2.2.2.1 (lw_V q152 q154 qs9 q23 q155) rfl rfl rfl (by decide +kernel) ⟨Nat.le_of_ble_eq_true rfl, Nat.le_of_ble_eq_true rfl⟩) hO hS rfl rfl hl.1 (Nat.le_of_ble_eq_true rfl) dX0_lastTime_4 ⟨Nat.zero_le _, Nat.zero_le _⟩ (fun H locs hO hS => ?_)
  refine ox_g16 C hO (lv_at hl 0 rfl) dX0_lastTime_7 dX0_lastTime_8 ?_
  refine lv_istore_n (lv' := [(1, .int ((os_reach σ 200) 16 0)), (0, .ref h)]) C.1 C.2.1 dX0_lastTime_11 rfl hl (by decide) rfl (fun ls hl => ?_)
  refine lv_iconst (v := 0) C.1 C.2.1 dX0_lastTime_12 (by decide) ?_
  refine lv_istore_n (lv' := [(2, .int 0), (1, .int ((os_reach σ 200) 16 0)), (0, .ref h)]) C.1 C.2.1 dX0_lastTime_13 rfl hl (by decide) rfl (fun ls hl => ?_)
  exact loop 96 0 _ rfl rfl H locs hO hS ls (lv_sub hl [2, 1, 0] rfl)
set_option maxHeartbeats 4000000 in
theorem mx_events (l : Launch) (D : va_G) (cI cZ : ClassId) (h : Nat) (ad : Nat → Nat) (σ : os_St) (hbd : os_bd 96 σ) (h0 : σ 18 0 = 0) : os_MI l yX0_events cX0_events 3 .int (os_rm 7 157) (ox_A h ad) [.ref h] (ox_W D cI cZ h ad σ) (ox_W D cI cZ h ad ((os_events σ).2)) ((os_events σ).1) := by
  refine ox_ei (by decide) rfl (Nat.le_of_ble_eq_true rfl) ?_
  intro pg e s m below meth c C hr hlk hO hS ls hl
  have hl : lv_has ls 3 [(0, .ref h)] := hl
  have loop : ∀ (n i : Nat), i + n = 4 → ∀ (H : Heap) (locs : List Loc), ox_P D cI cZ h ad (os_reach σ 200) H → va_S (ox_A h ad) s.heap H locs → ∀ ls : Array Slot, lv_has ls 3 [(0, .ref h), (1, .int (os_sumF (os_reach σ 200) i)), (2, .int (nI i))] → W pg l e (os_rm 7 157) s m ([.ref h] : List Value).toArray below meth c H locs 0 0 (ox_QI below D cI cZ h ad ((os_events σ).2) ((os_events σ).1) ([.ref h] : List Value).toArray s) (F0 m 11 ls []) := by
    intro n
    induction n with
    | zero =>
      intro i hi H locs hO hS ls hl
      obtain rfl : i = 4 := by omega
      refine lv_iload_n C.1 C.2.1 dX0_events_11 rfl (lv_at hl 2 rfl) ?_
      refine lv_iconst (v := 4) C.1 C.2.1 dX0_events_12 (by decide) ?_
      refine lv_icmp_ge (tgt := 40) C.1 C.2.1 dX0_events_13 (by decide) (fun c13 => ?_) (fun c13 => ?_)
      · have c13 := Int32.not_lt.mpr c13
        refine lv_iload_n C.1 C.2.1 dX0_events_40 rfl (lv_at hl 1 rfl) ?_
        exact ox_ri C hO hS rfl rfl hr hlk dX0_events_41
      · have c13 := Int32.not_le.mp c13
        exact absurd c13 (by decide)
    | succ n ih =>
      intro i hi H locs hO hS ls hl
      refine lv_iload_n C.1 C.2.1 dX0_events_11 rfl (lv_at hl 2 rfl) ?_
      refine lv_iconst (v := 4) C.1 C.2.1 dX0_events_12 (by decide) ?_
      refine lv_icmp_ge (tgt := 40) C.1 C.2.1 dX0_events_13 (by decide) (fun c13 => ?_) (fun c13 => ?_)
      · have c13 := Int32.not_lt.mpr c13
        exact absurd (nI_lt (a := i) (b := 4) (by omega) (by omega)) c13
      · have c13 := Int32.not_le.mp c13
        refine lv_iload_n C.1 C.2.1 dX0_events_16 rfl (lv_at hl 1 rfl) ?_
        refine ox_g15 C hO (lv_at hl 0 rfl) dX0_events_17 dX0_events_18 ?_
        refine lv_iload_n C.1 C.2.1 dX0_events_21 rfl (lv_at hl 2 rfl) ?_
        refine ox_l15 (j := i) C hO (nI_clamp (by omega)) (vp_in_nI (by omega) (by omega)) dX0_events_22 ?_
        refine lv_aload_n C.1 C.2.1 dX0_events_23 rfl (lv_at hl 0 rfl) ?_
        refine lv_iload_n C.1 C.2.1 dX0_events_24 rfl (lv_at hl 2 rfl) ?_
        refine lv_sipush (v := 200) C.1 C.2.1 dX0_events_25 (by decide) ?_
        refine ox_ci (As := [.int (nI i), .int 200]) (rest := [.int ((os_reach σ 200) 15 i), .int (os_sumF (os_reach σ 200) i)]) C (mx_count l D cI cZ h ad (os_reach σ 200) (nI i) 200) (cwV 2 C.2.2.2.2.1 (lw_V q164 q166 qs12 q23 q167) rfl rfl rfl (by decide +kernel) ⟨Nat.le_of_ble_eq_true rfl, Nat.le_of_ble_eq_true rfl⟩) hO hS rfl rfl hl.1 (Nat.le_of_ble_eq_true rfl) dX0_events_28 ⟨Nat.zero_le _, Nat.zero_le _⟩ (fun H locs hO hS => ?_)
        refine lv_iadd C.1 C.2.1 dX0_events_31 ?_
        refine lv_iadd C.1 C.2.1 dX0_events_32 ?_
        refine lv_istore_n (lv' := [(1, .int ((os_sumF (os_reach σ 200) i) + (((os_reach σ 200) 15 i) + (os_count (os_reach σ 200) (nI i) 200)))), (0, .ref h), (2, .int (nI i))]) C.1 C.2.1 dX0_events_33 rfl hl (by decide) rfl (fun ls hl => ?_)
        refine lv_iinc (v := nI (i + 1)) (lv' := [(2, .int (nI (i + 1))), (1, .int ((os_sumF (os_reach σ 200) i) + (((os_reach σ 200) 15 i) + (os_count (os_reach σ 200) (nI i) 200)))), (0, .ref h)]) C.1 C.2.1 dX0_events_34 hl (k := 2) rfl (nI_1 i) (by decide) rfl (fun ls hl => ?_)
        refine lv_goto (tgt := 11) C.1 C.2.1 dX0_events_37 (by decide) ?_
        exact ih (i + 1) (by omega) H locs hO hS ls (lv_sub hl [2, 1, 0] rfl)
  refine lv_aload_n C.1 C.2.1 dX0_events_0 rfl (lv_at hl 0 rfl) ?_
  refine lv_sipush (v := 200) C.1 C.2.1 dX0_events_1 (by decide) ?_
  refine ox_cv (As := [.int 200]) (rest := []) C (mx_reach l D cI cZ h ad σ 200 hbd h0) (cwV 1 C.2.2.2.2.1 (lw_V q152 q154 qs9 q23 q155) rfl rfl rfl (by decide +kernel) ⟨Nat.le_of_ble_eq_true rfl, Nat.le_of_ble_eq_true rfl⟩) hO hS rfl rfl hl.1 (Nat.le_of_ble_eq_true rfl) dX0_events_4 ⟨Nat.zero_le _, Nat.zero_le _⟩ (fun H locs hO hS => ?_)
  refine lv_iconst (v := 0) C.1 C.2.1 dX0_events_7 (by decide) ?_
  refine lv_istore_n (lv' := [(1, .int 0), (0, .ref h)]) C.1 C.2.1 dX0_events_8 rfl hl (by decide) rfl (fun ls hl => ?_)
  refine lv_iconst (v := 0) C.1 C.2.1 dX0_events_9 (by decide) ?_
  refine lv_istore_n (lv' := [(2, .int 0), (1, .int 0), (0, .ref h)]) C.1 C.2.1 dX0_events_10 rfl hl (by decide) rfl (fun ls hl => ?_)
  exact loop 4 0 rfl H locs hO hS ls (lv_sub hl [2, 1, 0] rfl)
set_option maxHeartbeats 4000000 in
theorem mx_horizon (l : Launch) (D : va_G) (cI cZ : ClassId) (h : Nat) (ad : Nat → Nat) (σ : os_St) : os_MI l yX0_horizon cX0_horizon 1 .int (os_rm 0 0) (ox_A h ad) [.ref h] (ox_W D cI cZ h ad σ) (ox_W D cI cZ h ad σ) (σ 4 0) := by
  refine ox_ei (by decide) rfl (Nat.le_of_ble_eq_true rfl) ?_
  intro pg e s m below meth c C hr hlk hO hS ls hl
  have hl : lv_has ls 1 [(0, .ref h)] := hl
  refine ox_g4 C hO (lv_at hl 0 rfl) dX0_horizon_0 dX0_horizon_1 ?_
  exact ox_ri C hO hS rfl rfl hr hlk dX0_horizon_4
set_option maxHeartbeats 4000000 in
theorem mx_commit (l : Launch) (D : va_G) (cI cZ : ClassId) (h : Nat) (ad : Nat → Nat) (σ : os_St) (t : Int32) (hbd : os_bd 96 σ) (h0 : σ 18 0 = 0) : os_MI l yX0_commit cX0_commit 4 .int (os_rm 7 157) (ox_A h ad) [.ref h, .int t] (ox_W D cI cZ h ad σ) (ox_W D cI cZ h ad ((os_commit σ t).2)) ((os_commit σ t).1) := by
  refine ox_ei (by decide) rfl (Nat.le_of_ble_eq_true rfl) ?_
  intro pg e s m below meth c C hr hlk hO hS ls hl
  have hl : lv_has ls 4 [(0, .ref h), (1, .int t)] := hl
  have loop2 : ∀ (n i : Nat), i + n = 96 → (¬ t < 0 ∧ ¬ 200 < t ∧ ¬ t < σ 4 0) → ∀ (H : Heap) (locs : List Loc), ox_P D cI cZ h ad (os_dropF t (os_foldF t (os_reach σ t) 4).1 i) H → va_S (ox_A h ad) s.heap H locs → ∀ ls : Array Slot, lv_has ls 4 [(0, .ref h), (1, .int t), (2, .int (os_foldF t (os_reach σ t) 4).2), (3, .int (nI i))] → W pg l e (os_rm 7 157) s m ([.ref h, .int t] : List Value).toArray below meth c H locs 0 0 (ox_QI below D cI cZ h ad ((os_commit σ t).2) ((os_commit σ t).1) ([.ref h, .int t] : List Value).toArray s) (F0 m 83 ls []) := by
    intro n
    induction n with
    | zero =>
      intro i hi hc H locs hO hS ls hl
      obtain rfl : i = 96 := by omega
      refine lv_iload_n C.1 C.2.1 dX0_commit_83 rfl (lv_at hl 3 rfl) ?_
      refine lv_bipush (v := 96) C.1 C.2.1 dX0_commit_84 (by decide) ?_
      refine lv_icmp_ge (tgt := 144) C.1 C.2.1 dX0_commit_86 (by decide) (fun c86 => ?_) (fun c86 => ?_)
      · have c86 := Int32.not_lt.mpr c86
        refine lv_aload_n C.1 C.2.1 dX0_commit_144 rfl (lv_at hl 0 rfl) ?_
        refine lv_iload_n C.1 C.2.1 dX0_commit_145 rfl (lv_at hl 1 rfl) ?_
        refine ox_p4 C hO hS dX0_commit_146 (fun H locs hO hS => ?_)
        refine lv_iload_n C.1 C.2.1 dX0_commit_149 rfl (lv_at hl 2 rfl) ?_
        exact ox_ri C hO hS (by rw [os_commit, if_neg (fun q => q.elim hc.1 hc.2.1), if_neg hc.2.2]) (by rw [os_commit, if_neg (fun q => q.elim hc.1 hc.2.1), if_neg hc.2.2]) hr hlk dX0_commit_150
      · have c86 := Int32.not_le.mp c86
        exact absurd c86 (by decide)
    | succ n ih =>
      intro i hi hc H locs hO hS ls hl
      refine lv_iload_n C.1 C.2.1 dX0_commit_83 rfl (lv_at hl 3 rfl) ?_
      refine lv_bipush (v := 96) C.1 C.2.1 dX0_commit_84 (by decide) ?_
      refine lv_icmp_ge (tgt := 144) C.1 C.2.1 dX0_commit_86 (by decide) (fun c86 => ?_) (fun c86 => ?_)
      · have c86 := Int32.not_lt.mpr c86
        exact absurd (nI_lt (a := i) (b := 96) (by omega) (by omega)) c86
      · have c86 := Int32.not_le.mp c86
        refine ox_g5 C hO (lv_at hl 0 rfl) dX0_commit_89 dX0_commit_90 ?_
        refine lv_iload_n C.1 C.2.1 dX0_commit_93 rfl (lv_at hl 3 rfl) ?_
        refine ox_l5 (j := i) C hO (nI_clamp (by omega)) (vp_in_nI (by omega) (by omega)) dX0_commit_94 ?_
        refine lv_if_eq (tgt := 138) C.1 C.2.1 dX0_commit_95 (by decide) (fun c95 => ?_) (fun c95 => ?_)
        · refine lv_iinc (v := nI (i + 1)) (lv' := [(3, .int (nI (i + 1))), (0, .ref h), (1, .int t), (2, .int (os_foldF t (os_reach σ t) 4).2)]) C.1 C.2.1 dX0_commit_138 hl (k := 3) rfl (nI_1 i) (by decide) rfl (fun ls hl => ?_)
          refine lv_goto (tgt := 83) C.1 C.2.1 dX0_commit_141 (by decide) ?_
          have ed : os_dropF t (os_foldF t (os_reach σ t) 4).1 i = os_dropF t (os_foldF t (os_reach σ t) 4).1 (i + 1) := by rw [os_dropF, os_drop1, if_neg (fun q => q.1 c95)]
          rw [ed] at hO
          exact ih (i + 1) (by omega) hc H locs hO hS ls (lv_sub hl [1, 2, 3, 0] rfl)
        · refine ox_g6 C hO (lv_at hl 0 rfl) dX0_commit_98 dX0_commit_99 ?_
          refine lv_iload_n C.1 C.2.1 dX0_commit_102 rfl (lv_at hl 3 rfl) ?_
          refine ox_l6 (j := i) C hO (nI_clamp (by omega)) (vp_in_nI (by omega) (by omega)) dX0_commit_103 ?_
          refine lv_iload_n C.1 C.2.1 dX0_commit_104 rfl (lv_at hl 1 rfl) ?_
          refine lv_icmp_gt (tgt := 138) C.1 C.2.1 dX0_commit_105 (by decide) (fun c105 => ?_) (fun c105 => ?_)
          · refine lv_iinc (v := nI (i + 1)) (lv' := [(3, .int (nI (i + 1))), (0, .ref h), (1, .int t), (2, .int (os_foldF t (os_reach σ t) 4).2)]) C.1 C.2.1 dX0_commit_138 hl (k := 3) rfl (nI_1 i) (by decide) rfl (fun ls hl => ?_)
            refine lv_goto (tgt := 83) C.1 C.2.1 dX0_commit_141 (by decide) ?_
            have ed : os_dropF t (os_foldF t (os_reach σ t) 4).1 i = os_dropF t (os_foldF t (os_reach σ t) 4).1 (i + 1) := by rw [os_dropF, os_drop1, if_neg (fun q => Int32.not_lt.mpr q.2 c105)]
            rw [ed] at hO
            exact ih (i + 1) (by omega) hc H locs hO hS ls (lv_sub hl [1, 2, 3, 0] rfl)
          · refine ox_g6 C hO (lv_at hl 0 rfl) dX0_commit_108 dX0_commit_109 ?_
            refine lv_iload_n C.1 C.2.1 dX0_commit_112 rfl (lv_at hl 3 rfl) ?_
            refine ox_l6 (j := i) C hO (nI_clamp (by omega)) (vp_in_nI (by omega) (by omega)) dX0_commit_113 ?_
            refine ox_g16 C hO (lv_at hl 0 rfl) dX0_commit_114 dX0_commit_115 ?_
            refine lv_icmp_le (tgt := 131) C.1 C.2.1 dX0_commit_118 (by decide) (fun c118 => ?_) (fun c118 => ?_)
            · have c118 := Int32.not_lt.mpr c118
              refine ox_g5 C hO (lv_at hl 0 rfl) dX0_commit_131 dX0_commit_132 ?_
              refine lv_iload_n C.1 C.2.1 dX0_commit_135 rfl (lv_at hl 3 rfl) ?_
              refine lv_iconst (v := 0) C.1 C.2.1 dX0_commit_136 (by decide) ?_
              refine ox_s5 (j := i) C hO hS (nI_clamp (by omega)) (vp_in_nI (by omega) (by omega)) os_nz0 dX0_commit_137 (fun H locs hO hS => ?_)
              refine lv_iinc (v := nI (i + 1)) (lv' := [(3, .int (nI (i + 1))), (0, .ref h), (1, .int t), (2, .int (os_foldF t (os_reach σ t) 4).2)]) C.1 C.2.1 dX0_commit_138 hl (k := 3) rfl (nI_1 i) (by decide) rfl (fun ls hl => ?_)
              refine lv_goto (tgt := 83) C.1 C.2.1 dX0_commit_141 (by decide) ?_
              have ed : os_set (os_dropF t (os_foldF t (os_reach σ t) 4).1 i) 5 i 0 = os_dropF t (os_foldF t (os_reach σ t) 4).1 (i + 1) := by rw [os_dropF, os_drop1, if_pos ⟨c95, Int32.not_lt.mp c105⟩, if_neg c118]
              rw [ed] at hO
              exact ih (i + 1) (by omega) hc H locs hO hS ls (lv_sub hl [1, 2, 3, 0] rfl)
            · have c118 := Int32.not_le.mp c118
              refine lv_aload_n C.1 C.2.1 dX0_commit_121 rfl (lv_at hl 0 rfl) ?_
              refine ox_g6 C hO (lv_at hl 0 rfl) dX0_commit_122 dX0_commit_123 ?_
              refine lv_iload_n C.1 C.2.1 dX0_commit_126 rfl (lv_at hl 3 rfl) ?_
              refine ox_l6 (j := i) C hO (nI_clamp (by omega)) (vp_in_nI (by omega) (by omega)) dX0_commit_127 ?_
              refine ox_p16 C hO hS dX0_commit_128 (fun H locs hO hS => ?_)
              refine ox_g5 C hO (lv_at hl 0 rfl) dX0_commit_131 dX0_commit_132 ?_
              refine lv_iload_n C.1 C.2.1 dX0_commit_135 rfl (lv_at hl 3 rfl) ?_
              refine lv_iconst (v := 0) C.1 C.2.1 dX0_commit_136 (by decide) ?_
              refine ox_s5 (j := i) C hO hS (nI_clamp (by omega)) (vp_in_nI (by omega) (by omega)) os_nz0 dX0_commit_137 (fun H locs hO hS => ?_)
              refine lv_iinc (v := nI (i + 1)) (lv' := [(3, .int (nI (i + 1))), (0, .ref h), (1, .int t), (2, .int (os_foldF t (os_reach σ t) 4).2)]) C.1 C.2.1 dX0_commit_138 hl (k := 3) rfl (nI_1 i) (by decide) rfl (fun ls hl => ?_)
              refine lv_goto (tgt := 83) C.1 C.2.1 dX0_commit_141 (by decide) ?_
              have ed : os_set (os_set (os_dropF t (os_foldF t (os_reach σ t) 4).1 i) 16 0 ((os_dropF t (os_foldF t (os_reach σ t) 4).1 i) 6 i)) 5 i 0 = os_dropF t (os_foldF t (os_reach σ t) 4).1 (i + 1) := by rw [os_dropF, os_drop1, if_pos ⟨c95, Int32.not_lt.mp c105⟩, if_pos c118]
              rw [ed] at hO
              exact ih (i + 1) (by omega) hc H locs hO hS ls (lv_sub hl [1, 2, 3, 0] rfl)
  have loop1 : ∀ (n i : Nat), i + n = 4 → (¬ t < 0 ∧ ¬ 200 < t ∧ ¬ t < σ 4 0) → ∀ (H : Heap) (locs : List Loc), ox_P D cI cZ h ad ((os_foldF t (os_reach σ t) i).1) H → va_S (ox_A h ad) s.heap H locs → ∀ ls : Array Slot, lv_has ls 4 [(0, .ref h), (1, .int t), (2, .int (os_foldF t (os_reach σ t) i).2), (3, .int (nI i))] → W pg l e (os_rm 7 157) s m ([.ref h, .int t] : List Value).toArray below meth c H locs 0 0 (ox_QI below D cI cZ h ad ((os_commit σ t).2) ((os_commit σ t).1) ([.ref h, .int t] : List Value).toArray s) (F0 m 34 ls []) := by
    intro n
    induction n with
    | zero =>
      intro i hi hc H locs hO hS ls hl
      obtain rfl : i = 4 := by omega
      refine lv_iload_n C.1 C.2.1 dX0_commit_34 rfl (lv_at hl 3 rfl) ?_
      refine lv_iconst (v := 4) C.1 C.2.1 dX0_commit_35 (by decide) ?_
      refine lv_icmp_ge (tgt := 81) C.1 C.2.1 dX0_commit_36 (by decide) (fun c36 => ?_) (fun c36 => ?_)
      · have c36 := Int32.not_lt.mpr c36
        refine lv_iconst (v := 0) C.1 C.2.1 dX0_commit_81 (by decide) ?_
        refine lv_istore_n (lv' := [(3, .int 0), (0, .ref h), (1, .int t), (2, .int (os_foldF t (os_reach σ t) 4).2)]) C.1 C.2.1 dX0_commit_82 rfl hl (by decide) rfl (fun ls hl => ?_)
        exact loop2 96 0 rfl hc H locs hO hS ls (lv_sub hl [1, 2, 3, 0] rfl)
      · have c36 := Int32.not_le.mp c36
        exact absurd c36 (by decide)
    | succ n ih =>
      intro i hi hc H locs hO hS ls hl
      have hx : vp_in (nI i) 4 := vp_in_nI (by omega) (by omega)
      refine lv_iload_n C.1 C.2.1 dX0_commit_34 rfl (lv_at hl 3 rfl) ?_
      refine lv_iconst (v := 4) C.1 C.2.1 dX0_commit_35 (by decide) ?_
      refine lv_icmp_ge (tgt := 81) C.1 C.2.1 dX0_commit_36 (by decide) (fun c36 => ?_) (fun c36 => ?_)
      · have c36 := Int32.not_lt.mpr c36
        exact absurd (nI_lt (a := i) (b := 4) (by omega) (by omega)) c36
      · have c36 := Int32.not_le.mp c36
        refine ox_g14 C hO (lv_at hl 0 rfl) dX0_commit_39 dX0_commit_40 ?_
        refine lv_iload_n C.1 C.2.1 dX0_commit_43 rfl (lv_at hl 3 rfl) ?_
        refine lv_aload_n C.1 C.2.1 dX0_commit_44 rfl (lv_at hl 0 rfl) ?_
        refine lv_iload_n C.1 C.2.1 dX0_commit_45 rfl (lv_at hl 3 rfl) ?_
        refine lv_iload_n C.1 C.2.1 dX0_commit_46 rfl (lv_at hl 1 rfl) ?_
        refine ox_ci (As := [.int (nI i), .int t]) (rest := [.int (nI i), .ref (ad 14)]) C (mx_stateAt l D cI cZ h ad ((os_foldF t (os_reach σ t) i).1) (nI i) t hx) (cwV 2 C.2.2.2.2.1 (lw_V q160 q162 qs11 q23 q163) rfl rfl rfl (by decide +kernel) ⟨Nat.le_of_ble_eq_true rfl, Nat.le_of_ble_eq_true rfl⟩) hO hS rfl rfl hl.1 (Nat.le_of_ble_eq_true rfl) dX0_commit_47 ⟨Nat.zero_le _, Nat.zero_le _⟩ (fun H locs hO hS => ?_)
        refine ox_s14 (j := i) C hO hS (nI_clamp (by omega)) (vp_in_nI (by omega) (by omega)) dX0_commit_50 (fun H locs hO hS => ?_)
        refine ox_g15 C hO (lv_at hl 0 rfl) dX0_commit_51 dX0_commit_52 ?_
        refine lv_iload_n C.1 C.2.1 dX0_commit_55 rfl (lv_at hl 3 rfl) ?_
        refine lv_dup2_11 C.1 C.2.1 dX0_commit_56 rfl rfl ?_
        refine ox_l15 (j := i) C hO (nI_clamp (by omega)) (vp_in_nI (by omega) (by omega)) dX0_commit_57 ?_
        refine lv_aload_n C.1 C.2.1 dX0_commit_58 rfl (lv_at hl 0 rfl) ?_
        refine lv_iload_n C.1 C.2.1 dX0_commit_59 rfl (lv_at hl 3 rfl) ?_
        refine lv_iload_n C.1 C.2.1 dX0_commit_60 rfl (lv_at hl 1 rfl) ?_
        refine ox_ci (As := [.int (nI i), .int t]) (rest := [.int ((os_set ((os_foldF t (os_reach σ t) i).1) 14 i (os_stateAt ((os_foldF t (os_reach σ t) i).1) (nI i) t)) 15 i), .int (nI i), .ref (ad 15)]) C (mx_count l D cI cZ h ad (os_set ((os_foldF t (os_reach σ t) i).1) 14 i (os_stateAt ((os_foldF t (os_reach σ t) i).1) (nI i) t)) (nI i) t) (cwV 2 C.2.2.2.2.1 (lw_V q164 q166 qs12 q23 q167) rfl rfl rfl (by decide +kernel) ⟨Nat.le_of_ble_eq_true rfl, Nat.le_of_ble_eq_true rfl⟩) hO hS rfl rfl hl.1 (Nat.le_of_ble_eq_true rfl) dX0_commit_61 ⟨Nat.zero_le _, Nat.zero_le _⟩ (fun H locs hO hS => ?_)
        refine lv_iadd C.1 C.2.1 dX0_commit_64 ?_
        refine ox_s15 (j := i) C hO hS (nI_clamp (by omega)) (vp_in_nI (by omega) (by omega)) dX0_commit_65 (fun H locs hO hS => ?_)
        refine lv_iload_n C.1 C.2.1 dX0_commit_66 rfl (lv_at hl 2 rfl) ?_
        refine ox_g15 C hO (lv_at hl 0 rfl) dX0_commit_67 dX0_commit_68 ?_
        refine lv_iload_n C.1 C.2.1 dX0_commit_71 rfl (lv_at hl 3 rfl) ?_
        refine ox_l15 (j := i) C hO (nI_clamp (by omega)) (vp_in_nI (by omega) (by omega)) dX0_commit_72 ?_
        refine lv_iadd C.1 C.2.1 dX0_commit_73 ?_
        refine lv_istore_n (lv' := [(2, .int (((os_foldF t (os_reach σ t) i).2) + ((os_set (os_set ((os_foldF t (os_reach σ t) i).1) 14 i (os_stateAt ((os_foldF t (os_reach σ t) i).1) (nI i) t)) 15 i (((os_set ((os_foldF t (os_reach σ t) i).1) 14 i (os_stateAt ((os_foldF t (os_reach σ t) i).1) (nI i) t)) 15 i) + (os_count (os_set ((os_foldF t (os_reach σ t) i).1) 14 i (os_stateAt ((os_foldF t (os_reach σ t) i).1) (nI i) t)) (nI i) t))) 15 i))), (0, .ref h), (1, .int t), (3, .int (nI i))]) C.1 C.2.1 dX0_commit_74 rfl hl (by decide) rfl (fun ls hl => ?_)
        refine lv_iinc (v := nI (i + 1)) (lv' := [(3, .int (nI (i + 1))), (2, .int (((os_foldF t (os_reach σ t) i).2) + ((os_set (os_set ((os_foldF t (os_reach σ t) i).1) 14 i (os_stateAt ((os_foldF t (os_reach σ t) i).1) (nI i) t)) 15 i (((os_set ((os_foldF t (os_reach σ t) i).1) 14 i (os_stateAt ((os_foldF t (os_reach σ t) i).1) (nI i) t)) 15 i) + (os_count (os_set ((os_foldF t (os_reach σ t) i).1) 14 i (os_stateAt ((os_foldF t (os_reach σ t) i).1) (nI i) t)) (nI i) t))) 15 i))), (0, .ref h), (1, .int t)]) C.1 C.2.1 dX0_commit_75 hl (k := 3) rfl (nI_1 i) (by decide) rfl (fun ls hl => ?_)
        refine lv_goto (tgt := 34) C.1 C.2.1 dX0_commit_78 (by decide) ?_
        exact ih (i + 1) (by omega) hc H locs hO hS ls (lv_sub hl [2, 3, 1, 0] rfl)
  refine lv_iload_n C.1 C.2.1 dX0_commit_0 rfl (lv_at hl 1 rfl) ?_
  refine lv_if_lt (tgt := 11) C.1 C.2.1 dX0_commit_1 (by decide) (fun c1 => ?_) (fun c1 => ?_)
  · refine lv_bipush (v := -2) C.1 C.2.1 dX0_commit_11 (by decide) ?_
    exact ox_ri C hO hS (by rw [os_commit, if_pos (Or.inl c1)]) (by rw [os_commit, if_pos (Or.inl c1)]) hr hlk dX0_commit_13
  · refine lv_iload_n C.1 C.2.1 dX0_commit_4 rfl (lv_at hl 1 rfl) ?_
    refine lv_sipush (v := 200) C.1 C.2.1 dX0_commit_5 (by decide) ?_
    refine lv_icmp_le (tgt := 14) C.1 C.2.1 dX0_commit_8 (by decide) (fun c8 => ?_) (fun c8 => ?_)
    · have c8 := Int32.not_lt.mpr c8
      refine lv_iload_n C.1 C.2.1 dX0_commit_14 rfl (lv_at hl 1 rfl) ?_
      refine ox_g4 C hO (lv_at hl 0 rfl) dX0_commit_15 dX0_commit_16 ?_
      refine lv_icmp_ge (tgt := 25) C.1 C.2.1 dX0_commit_19 (by decide) (fun c19 => ?_) (fun c19 => ?_)
      · have c19 := Int32.not_lt.mpr c19
        refine lv_aload_n C.1 C.2.1 dX0_commit_25 rfl (lv_at hl 0 rfl) ?_
        refine lv_iload_n C.1 C.2.1 dX0_commit_26 rfl (lv_at hl 1 rfl) ?_
        refine ox_cv (As := [.int t]) (rest := []) C (mx_reach l D cI cZ h ad σ t hbd h0) (cwV 1 C.2.2.2.2.1 (lw_V q152 q154 qs9 q23 q155) rfl rfl rfl (by decide +kernel) ⟨Nat.le_of_ble_eq_true rfl, Nat.le_of_ble_eq_true rfl⟩) hO hS rfl rfl hl.1 (Nat.le_of_ble_eq_true rfl) dX0_commit_27 ⟨Nat.zero_le _, Nat.zero_le _⟩ (fun H locs hO hS => ?_)
        refine lv_iconst (v := 0) C.1 C.2.1 dX0_commit_30 (by decide) ?_
        refine lv_istore_n (lv' := [(2, .int 0), (0, .ref h), (1, .int t)]) C.1 C.2.1 dX0_commit_31 rfl hl (by decide) rfl (fun ls hl => ?_)
        refine lv_iconst (v := 0) C.1 C.2.1 dX0_commit_32 (by decide) ?_
        refine lv_istore_n (lv' := [(3, .int 0), (2, .int 0), (0, .ref h), (1, .int t)]) C.1 C.2.1 dX0_commit_33 rfl hl (by decide) rfl (fun ls hl => ?_)
        exact loop1 4 0 rfl ⟨c1, c8, c19⟩ H locs hO hS ls (lv_sub hl [2, 3, 1, 0] rfl)
      · have c19 := Int32.not_le.mp c19
        refine lv_bipush (v := -4) C.1 C.2.1 dX0_commit_22 (by decide) ?_
        exact ox_ri C hO hS (by rw [os_commit, if_neg (fun q => q.elim c1 c8), if_pos c19]) (by rw [os_commit, if_neg (fun q => q.elim c1 c8), if_pos c19]) hr hlk dX0_commit_24
    · have c8 := Int32.not_le.mp c8
      refine lv_bipush (v := -2) C.1 C.2.1 dX0_commit_11 (by decide) ?_
      exact ox_ri C hO hS (by rw [os_commit, if_pos (Or.inr c8)]) (by rw [os_commit, if_pos (Or.inr c8)]) hr hlk dX0_commit_13
end
section
/-! walks of OptimisticSimModel (printed by gen/walkm.py) -/
set_option maxRecDepth 100000
theorem om_cnt_in {x : Int32} (h0 : ¬ x < 0) (h : x < 96) : vp_in x 96 := by
  rw [vp_in_iff]
  have h1 := Int32.le_iff_toInt_le.mp (Int32.not_lt.mp h0)
  have h2 := Int32.lt_iff_toInt_lt.mp h
  exact ⟨h1, h2⟩
theorem om_bad_in {x : Int32} (h : om_bad x = false) : vp_in x 4 := by
  unfold om_bad at h
  simp only [Bool.or_eq_false_iff, decide_eq_false_iff_not] at h
  rw [vp_in_iff]
  have h1 := Int32.le_iff_toInt_le.mp (Int32.not_lt.mp h.1)
  have h2 := Int32.le_iff_toInt_le.mp (Int32.not_lt.mp h.2)
  have h3 : (3 : Int32).toInt = 3 := rfl
  exact ⟨h1, by omega⟩
def om_bd (μ : os_St) : Prop := (∀ i, i < 96 → vp_in (μ 7 i) 4) ∧ (∀ p, p < 4 → vp_in (μ 0 p) 4) ∧ ∃ n : Nat, n ≤ 96 ∧ μ 5 0 = nI n
theorem om_hd_k {μ : os_St} {e p k : Nat} (h1 : k ≠ 10) (h2 : k ≠ 11) (h3 : k ≠ 12) (h4 : k ≠ 13) : (om_hd μ e p) k = μ k := by
  simp only [om_hd, os_set_k h1, os_set_k h2, os_set_k h3, os_set_k h4]
theorem bm_hd {μ : os_St} (h : om_bd μ) (e p : Nat) : om_bd (om_hd μ e p) := by
  refine ⟨?_, ?_, ?_⟩
  · rw [om_hd_k (by decide) (by decide) (by decide) (by decide)]; exact h.1
  · rw [om_hd_k (by decide) (by decide) (by decide) (by decide)]; exact h.2.1
  · rw [om_hd_k (by decide) (by decide) (by decide) (by decide)]; exact h.2.2
theorem bm_put {μ : os_St} {p t v l : Int32} (h : om_bd μ) (hp : vp_in p 4) : om_bd (om_put μ p t v l) := by
  obtain ⟨h1, h2, n, h3, h4⟩ := h
  unfold om_put
  split
  · rename_i q
    have hn : n < 96 := by
      rw [h4] at q
      exact (nI_ltI (a := n) (b := 96) (by omega) (by omega)).mp q
    refine ⟨fun i hi => ?_, fun i hi => ?_, n + 1, by omega, ?_⟩
    · simp only [os_set_k (show (7 : Nat) ≠ 5 by decide), os_set_k (show (7 : Nat) ≠ 10 by decide), os_set_k (show (7 : Nat) ≠ 9 by decide), os_set_k (show (7 : Nat) ≠ 8 by decide), os_set_k (show (7 : Nat) ≠ 6 by decide), os_set_if]
      split
      · exact hp
      · exact h1 i hi
    · simpa [os_set_k] using h2 i hi
    · rw [os_set_s, h4, nI_1]
  · exact ⟨h1, h2, n, h3, h4⟩
theorem bm_handle {μ : os_St} (h : om_bd μ) {e : Nat} (he : e < 96) : om_bd (om_handle μ e) := by
  have h3 := bm_hd h e (os_ix (μ 7 e))
  unfold om_handle
  split
  · exact bm_put h3 (h3.2.1 _ (os_vpn (h.1 e he)))
  · exact h3
theorem bm_step {t : Int32} {μ : os_St} {i : Nat} (h : om_bd (om_simF t μ i)) : om_bd (om_simF t μ (i + 1)) := by
  rw [om_simF, om_step]
  obtain ⟨-, -, n, hn, hn2⟩ := id h
  cases hx : om_next (om_simF t μ i) (os_ix ((om_simF t μ i) 5 0)) with
  | none => exact h
  | some k =>
    have hk : k < 96 := by
      have := os_best_lt hx
      rw [hn2, os_ix, nI_clamp (by omega)] at this
      omega
    rw [om_hopt]
    split
    · exact h
    · exact bm_handle h hk
set_option maxHeartbeats 4000000 in
theorem mm_bad (l : Launch) (D : va_G) (cI cZ : ClassId) (h : Nat) (ad : Nat → Nat) (σ : os_St) (x : Int32) : os_MI l yX1_bad cX1_bad 2 .boolean (os_rm 0 0) (om_A h ad) [.ref h, .int x] (om_W D cI cZ h ad σ) (om_W D cI cZ h ad σ) (os_bit (om_bad x)) := by
  refine om_ei (by decide) rfl (Nat.le_of_ble_eq_true rfl) ?_
  intro pg e s m below meth c C hr hlk hO hS ls hl
  have hl : lv_has ls 2 [(0, .ref h), (1, .int x)] := hl
  refine lv_iload_n C.1 C.2.1 dX1_bad_0 rfl (lv_at hl 1 rfl) ?_
  refine lv_if_lt (tgt := 9) C.1 C.2.1 dX1_bad_1 (by decide) (fun c1 => ?_) (fun c1 => ?_)
  · refine lv_iconst (v := 1) C.1 C.2.1 dX1_bad_9 (by decide) ?_
    refine lv_goto (tgt := 14) C.1 C.2.1 dX1_bad_10 (by decide) ?_
    exact om_rz C hO hS (by simp [om_bad, os_bit, ← Int32.not_lt, c1]) rfl rfl hr hlk dX1_bad_14
  · refine lv_iload_n C.1 C.2.1 dX1_bad_4 rfl (lv_at hl 1 rfl) ?_
    refine lv_iconst (v := 3) C.1 C.2.1 dX1_bad_5 (by decide) ?_
    refine lv_icmp_le (tgt := 13) C.1 C.2.1 dX1_bad_6 (by decide) (fun c6 => ?_) (fun c6 => ?_)
    · have c6 := Int32.not_lt.mpr c6
      refine lv_iconst (v := 0) C.1 C.2.1 dX1_bad_13 (by decide) ?_
      exact om_rz C hO hS (by simp [om_bad, os_bit, ← Int32.not_lt, c1, c6]) rfl rfl hr hlk dX1_bad_14
    · have c6 := Int32.not_le.mp c6
      refine lv_iconst (v := 1) C.1 C.2.1 dX1_bad_9 (by decide) ?_
      refine lv_goto (tgt := 14) C.1 C.2.1 dX1_bad_10 (by decide) ?_
      exact om_rz C hO hS (by simp [om_bad, os_bit, ← Int32.not_lt, c1, c6]) rfl rfl hr hlk dX1_bad_14
set_option maxHeartbeats 4000000 in
theorem mm_put (l : Launch) (D : va_G) (cI cZ : ClassId) (h : Nat) (ad : Nat → Nat) (σ : os_St) (x t v w : Int32) (hc0 : ¬ σ 5 0 < 0) : os_MV l yX1_put cX1_put 5 (os_rm 0 0) (om_A h ad) [.ref h, .int x, .int t, .int v, .int w] (om_W D cI cZ h ad σ) (om_W D cI cZ h ad (om_put σ x t v w)) := by
  refine om_ev (by decide) rfl (Nat.le_of_ble_eq_true rfl) ?_
  intro pg e s m below meth c C hr hlk hO hS ls hl
  have hl : lv_has ls 5 [(0, .ref h), (1, .int x), (2, .int t), (3, .int v), (4, .int w)] := hl
  refine om_g5 C hO (lv_at hl 0 rfl) dX1_put_0 dX1_put_1 ?_
  refine lv_bipush (v := 96) C.1 C.2.1 dX1_put_4 (by decide) ?_
  refine lv_icmp_ge (tgt := 70) C.1 C.2.1 dX1_put_6 (by decide) (fun c6 => ?_) (fun c6 => ?_)
  · have c6 := Int32.not_lt.mpr c6
    exact om_rv C hO hS (by rw [om_put, if_neg c6]) hr hlk dX1_put_70
  · have c6 := Int32.not_le.mp c6
    have hc : vp_in (σ 5 0) 96 := om_cnt_in hc0 c6
    refine om_g7 C hO (lv_at hl 0 rfl) dX1_put_9 dX1_put_10 ?_
    refine om_g5 C hO (lv_at hl 0 rfl) dX1_put_13 dX1_put_14 ?_
    refine lv_iload_n C.1 C.2.1 dX1_put_17 rfl (lv_at hl 1 rfl) ?_
    refine om_s7 (j := os_ix (σ 5 0)) C hO hS rfl hc dX1_put_18 (fun H locs hO hS => ?_)
    refine om_g6 C hO (lv_at hl 0 rfl) dX1_put_19 dX1_put_20 ?_
    refine om_g5 C hO (lv_at hl 0 rfl) dX1_put_23 dX1_put_24 ?_
    refine lv_iload_n C.1 C.2.1 dX1_put_27 rfl (lv_at hl 2 rfl) ?_
    refine om_s6 (j := os_ix (σ 5 0)) C hO hS rfl hc dX1_put_28 (fun H locs hO hS => ?_)
    refine om_g8 C hO (lv_at hl 0 rfl) dX1_put_29 dX1_put_30 ?_
    refine om_g5 C hO (lv_at hl 0 rfl) dX1_put_33 dX1_put_34 ?_
    refine lv_iload_n C.1 C.2.1 dX1_put_37 rfl (lv_at hl 3 rfl) ?_
    refine om_s8 (j := os_ix (σ 5 0)) C hO hS rfl hc dX1_put_38 (fun H locs hO hS => ?_)
    refine om_g9 C hO (lv_at hl 0 rfl) dX1_put_39 dX1_put_40 ?_
    refine om_g5 C hO (lv_at hl 0 rfl) dX1_put_43 dX1_put_44 ?_
    refine lv_iload C.1 C.2.1 dX1_put_47 (lv_at hl 4 rfl) ?_
    refine om_s9 (j := os_ix (σ 5 0)) C hO hS rfl hc dX1_put_49 (fun H locs hO hS => ?_)
    refine om_g10 C hO (lv_at hl 0 rfl) dX1_put_50 dX1_put_51 ?_
    refine om_g5 C hO (lv_at hl 0 rfl) dX1_put_54 dX1_put_55 ?_
    refine lv_iconst (v := 0) C.1 C.2.1 dX1_put_58 (by decide) ?_
    refine om_s10 (j := os_ix (σ 5 0)) C hO hS rfl hc os_nz0 dX1_put_59 (fun H locs hO hS => ?_)
    refine lv_aload_n C.1 C.2.1 dX1_put_60 rfl (lv_at hl 0 rfl) ?_
    refine om_g5 C hO (lv_at hl 0 rfl) dX1_put_61 dX1_put_62 ?_
    refine lv_iconst (v := 1) C.1 C.2.1 dX1_put_65 (by decide) ?_
    refine lv_iadd C.1 C.2.1 dX1_put_66 ?_
    refine om_p5 C hO hS dX1_put_67 (fun H locs hO hS => ?_)
    exact om_rv C hO hS (by rw [om_put, if_pos c6]; rfl) hr hlk dX1_put_70
set_option maxHeartbeats 4000000 in
theorem mm_before (l : Launch) (D : va_G) (cI cZ : ClassId) (h : Nat) (ad : Nat → Nat) (σ : os_St) (a b : Nat) (ha : a < 96) (hb : b < 96) : os_MI l yX1_before cX1_before 3 .boolean (os_rm 0 0) (om_A h ad) [.ref h, .int (nI a), .int (nI b)] (om_W D cI cZ h ad σ) (om_W D cI cZ h ad σ) (os_bit (om_before σ a b)) := by
  refine om_ei (by decide) rfl (Nat.le_of_ble_eq_true rfl) ?_
  intro pg e s m below meth c C hr hlk hO hS ls hl
  have hl : lv_has ls 3 [(0, .ref h), (1, .int (nI a)), (2, .int (nI b))] := hl
  refine om_g6 C hO (lv_at hl 0 rfl) dX1_before_0 dX1_before_1 ?_
  refine lv_iload_n C.1 C.2.1 dX1_before_4 rfl (lv_at hl 1 rfl) ?_
  refine om_l6 (j := a) C hO (nI_clamp (by omega)) (vp_in_nI (by omega) (by omega)) dX1_before_5 ?_
  refine om_g6 C hO (lv_at hl 0 rfl) dX1_before_6 dX1_before_7 ?_
  refine lv_iload_n C.1 C.2.1 dX1_before_10 rfl (lv_at hl 2 rfl) ?_
  refine om_l6 (j := b) C hO (nI_clamp (by omega)) (vp_in_nI (by omega) (by omega)) dX1_before_11 ?_
  refine lv_icmp_eq (tgt := 36) C.1 C.2.1 dX1_before_12 (by decide) (fun c12 => ?_) (fun c12 => ?_)
  · refine om_g8 C hO (lv_at hl 0 rfl) dX1_before_36 dX1_before_37 ?_
    refine lv_iload_n C.1 C.2.1 dX1_before_40 rfl (lv_at hl 1 rfl) ?_
    refine om_l8 (j := a) C hO (nI_clamp (by omega)) (vp_in_nI (by omega) (by omega)) dX1_before_41 ?_
    refine om_g8 C hO (lv_at hl 0 rfl) dX1_before_42 dX1_before_43 ?_
    refine lv_iload_n C.1 C.2.1 dX1_before_46 rfl (lv_at hl 2 rfl) ?_
    refine om_l8 (j := b) C hO (nI_clamp (by omega)) (vp_in_nI (by omega) (by omega)) dX1_before_47 ?_
    refine lv_icmp_eq (tgt := 72) C.1 C.2.1 dX1_before_48 (by decide) (fun c48 => ?_) (fun c48 => ?_)
    · refine om_g9 C hO (lv_at hl 0 rfl) dX1_before_72 dX1_before_73 ?_
      refine lv_iload_n C.1 C.2.1 dX1_before_76 rfl (lv_at hl 1 rfl) ?_
      refine om_l9 (j := a) C hO (nI_clamp (by omega)) (vp_in_nI (by omega) (by omega)) dX1_before_77 ?_
      refine om_g9 C hO (lv_at hl 0 rfl) dX1_before_78 dX1_before_79 ?_
      refine lv_iload_n C.1 C.2.1 dX1_before_82 rfl (lv_at hl 2 rfl) ?_
      refine om_l9 (j := b) C hO (nI_clamp (by omega)) (vp_in_nI (by omega) (by omega)) dX1_before_83 ?_
      refine lv_icmp_ge (tgt := 91) C.1 C.2.1 dX1_before_84 (by decide) (fun c84 => ?_) (fun c84 => ?_)
      · have c84 := Int32.not_lt.mpr c84
        refine lv_iconst (v := 0) C.1 C.2.1 dX1_before_91 (by decide) ?_
        exact om_rz C hO hS (by simp [om_before, os_bit, c12, c48, c84]) rfl rfl hr hlk dX1_before_92
      · have c84 := Int32.not_le.mp c84
        refine lv_iconst (v := 1) C.1 C.2.1 dX1_before_87 (by decide) ?_
        refine lv_goto (tgt := 92) C.1 C.2.1 dX1_before_88 (by decide) ?_
        exact om_rz C hO hS (by simp [om_before, os_bit, c12, c48, c84]) rfl rfl hr hlk dX1_before_92
    · refine om_g8 C hO (lv_at hl 0 rfl) dX1_before_51 dX1_before_52 ?_
      refine lv_iload_n C.1 C.2.1 dX1_before_55 rfl (lv_at hl 1 rfl) ?_
      refine om_l8 (j := a) C hO (nI_clamp (by omega)) (vp_in_nI (by omega) (by omega)) dX1_before_56 ?_
      refine om_g8 C hO (lv_at hl 0 rfl) dX1_before_57 dX1_before_58 ?_
      refine lv_iload_n C.1 C.2.1 dX1_before_61 rfl (lv_at hl 2 rfl) ?_
      refine om_l8 (j := b) C hO (nI_clamp (by omega)) (vp_in_nI (by omega) (by omega)) dX1_before_62 ?_
      refine lv_icmp_ge (tgt := 70) C.1 C.2.1 dX1_before_63 (by decide) (fun c63 => ?_) (fun c63 => ?_)
      · have c63 := Int32.not_lt.mpr c63
        refine lv_iconst (v := 0) C.1 C.2.1 dX1_before_70 (by decide) ?_
        exact om_rz C hO hS (by simp [om_before, os_bit, c12, c48, c63]) rfl rfl hr hlk dX1_before_71
      · have c63 := Int32.not_le.mp c63
        refine lv_iconst (v := 1) C.1 C.2.1 dX1_before_66 (by decide) ?_
        refine lv_goto (tgt := 71) C.1 C.2.1 dX1_before_67 (by decide) ?_
        exact om_rz C hO hS (by simp [om_before, os_bit, c12, c48, c63]) rfl rfl hr hlk dX1_before_71
  · refine om_g6 C hO (lv_at hl 0 rfl) dX1_before_15 dX1_before_16 ?_
    refine lv_iload_n C.1 C.2.1 dX1_before_19 rfl (lv_at hl 1 rfl) ?_
    refine om_l6 (j := a) C hO (nI_clamp (by omega)) (vp_in_nI (by omega) (by omega)) dX1_before_20 ?_
    refine om_g6 C hO (lv_at hl 0 rfl) dX1_before_21 dX1_before_22 ?_
    refine lv_iload_n C.1 C.2.1 dX1_before_25 rfl (lv_at hl 2 rfl) ?_
    refine om_l6 (j := b) C hO (nI_clamp (by omega)) (vp_in_nI (by omega) (by omega)) dX1_before_26 ?_
    refine lv_icmp_ge (tgt := 34) C.1 C.2.1 dX1_before_27 (by decide) (fun c27 => ?_) (fun c27 => ?_)
    · have c27 := Int32.not_lt.mpr c27
      refine lv_iconst (v := 0) C.1 C.2.1 dX1_before_34 (by decide) ?_
      exact om_rz C hO hS (by simp [om_before, os_bit, c12, c27]) rfl rfl hr hlk dX1_before_35
    · have c27 := Int32.not_le.mp c27
      refine lv_iconst (v := 1) C.1 C.2.1 dX1_before_30 (by decide) ?_
      refine lv_goto (tgt := 35) C.1 C.2.1 dX1_before_31 (by decide) ?_
      exact om_rz C hO hS (by simp [om_before, os_bit, c12, c27]) rfl rfl hr hlk dX1_before_35
set_option maxHeartbeats 4000000 in
theorem mm_next (l : Launch) (D : va_G) (cI cZ : ClassId) (h : Nat) (ad : Nat → Nat) (σ : os_St) (N : Nat) (hN : σ 5 0 = nI N) (hN96 : N ≤ 96) : os_MI l yX1_next cX1_next 3 .int (os_rm 1 22) (om_A h ad) [.ref h] (om_W D cI cZ h ad σ) (om_W D cI cZ h ad σ) (os_enc (om_next σ N)) := by
  refine om_ei (by decide) rfl (Nat.le_of_ble_eq_true rfl) ?_
  intro pg e s m below meth c C hr hlk hO hS ls hl
  have hl : lv_has ls 3 [(0, .ref h)] := hl
  have loop : ∀ (n i : Nat) (ob : Option Nat), i + n = N → om_next σ i = ob → ∀ (H : Heap) (locs : List Loc), om_P D cI cZ h ad σ H → va_S (om_A h ad) s.heap H locs → ∀ ls : Array Slot, lv_has ls 3 [(0, .ref h), (1, .int (os_enc ob)), (2, .int (nI i))] → W pg l e (os_rm 1 22) s m ([.ref h] : List Value).toArray below meth c H locs 0 0 (om_QI below D cI cZ h ad σ (os_enc (om_next σ N)) ([.ref h] : List Value).toArray s) (F0 m 4 ls []) := by
    intro n
    induction n with
    | zero =>
      intro i ob hi hob H locs hO hS ls hl
      obtain rfl : i = N := by omega
      refine lv_iload_n C.1 C.2.1 dX1_next_4 rfl (lv_at hl 2 rfl) ?_
      refine om_g5 C hO (lv_at hl 0 rfl) dX1_next_5 dX1_next_6 ?_
      refine lv_icmp_ge (tgt := 42) C.1 C.2.1 dX1_next_9 (by decide) (fun c9 => ?_) (fun c9 => ?_)
      · have c9 := Int32.not_lt.mpr c9
        refine lv_iload_n C.1 C.2.1 dX1_next_42 rfl (lv_at hl 1 rfl) ?_
        exact om_ri C hO hS (by rw [hob]) rfl hr hlk dX1_next_43
      · have c9 := Int32.not_le.mp c9
        exact absurd c9 (by rw [hN]; exact nI_nlt (Nat.le_refl _) (by omega))
    | succ n ih =>
      intro i ob hi hob H locs hO hS ls hl
      cases ob with
      | none =>
        have hl : lv_has ls 3 [(0, .ref h), (1, .int (os_enc none)), (2, .int (nI i))] := hl
        refine lv_iload_n C.1 C.2.1 dX1_next_4 rfl (lv_at hl 2 rfl) ?_
        refine om_g5 C hO (lv_at hl 0 rfl) dX1_next_5 dX1_next_6 ?_
        refine lv_icmp_ge (tgt := 42) C.1 C.2.1 dX1_next_9 (by decide) (fun c9 => ?_) (fun c9 => ?_)
        · have c9 := Int32.not_lt.mpr c9
          exact absurd (by rw [hN]; exact nI_lt (by omega) (by omega)) c9
        · have c9 := Int32.not_le.mp c9
          refine om_g10 C hO (lv_at hl 0 rfl) dX1_next_12 dX1_next_13 ?_
          refine lv_iload_n C.1 C.2.1 dX1_next_16 rfl (lv_at hl 2 rfl) ?_
          refine om_l10 (j := i) C hO (nI_clamp (by omega)) (vp_in_nI (by omega) (by omega)) dX1_next_17 ?_
          refine lv_if_ne (tgt := 36) C.1 C.2.1 dX1_next_18 (by decide) (fun c18 => ?_) (fun c18 => ?_)
          · refine lv_iinc (v := nI (i + 1)) (lv' := [(2, .int (nI (i + 1))), (0, .ref h), (1, .int (os_enc none))]) C.1 C.2.1 dX1_next_36 hl (k := 2) rfl (nI_1 i) (by decide) rfl (fun ls hl => ?_)
            refine lv_goto (tgt := 4) C.1 C.2.1 dX1_next_39 (by decide) ?_
            exact ih (i + 1) none (by omega) ((os_best_k0 (by simp [c18])).trans hob) H locs hO hS ls (lv_sub hl [1, 2, 0] rfl)
          · refine lv_iload_n C.1 C.2.1 dX1_next_21 rfl (lv_at hl 1 rfl) ?_
            refine lv_if_lt (tgt := 34) C.1 C.2.1 dX1_next_22 (by decide) (fun c22 => ?_) (fun c22 => ?_)
            · refine lv_iload_n C.1 C.2.1 dX1_next_34 rfl (lv_at hl 2 rfl) ?_
              refine lv_istore_n (lv' := [(1, .int (nI i)), (0, .ref h), (2, .int (nI i))]) C.1 C.2.1 dX1_next_35 rfl hl (by decide) rfl (fun ls hl => ?_)
              refine lv_iinc (v := nI (i + 1)) (lv' := [(2, .int (nI (i + 1))), (1, .int (nI i)), (0, .ref h)]) C.1 C.2.1 dX1_next_36 hl (k := 2) rfl (nI_1 i) (by decide) rfl (fun ls hl => ?_)
              refine lv_goto (tgt := 4) C.1 C.2.1 dX1_next_39 (by decide) ?_
              exact ih (i + 1) (some i) (by omega) (os_best_t0 hob (by simp [c18])) H locs hO hS ls (lv_sub hl [2, 1, 0] rfl)
            · exact absurd os_m1neg c22
      | some b =>
        have hb96 : b < i := os_best_lt hob
        have hl : lv_has ls 3 [(0, .ref h), (1, .int (nI b)), (2, .int (nI i))] := hl
        refine lv_iload_n C.1 C.2.1 dX1_next_4 rfl (lv_at hl 2 rfl) ?_
        refine om_g5 C hO (lv_at hl 0 rfl) dX1_next_5 dX1_next_6 ?_
        refine lv_icmp_ge (tgt := 42) C.1 C.2.1 dX1_next_9 (by decide) (fun c9 => ?_) (fun c9 => ?_)
        · have c9 := Int32.not_lt.mpr c9
          exact absurd (by rw [hN]; exact nI_lt (by omega) (by omega)) c9
        · have c9 := Int32.not_le.mp c9
          refine om_g10 C hO (lv_at hl 0 rfl) dX1_next_12 dX1_next_13 ?_
          refine lv_iload_n C.1 C.2.1 dX1_next_16 rfl (lv_at hl 2 rfl) ?_
          refine om_l10 (j := i) C hO (nI_clamp (by omega)) (vp_in_nI (by omega) (by omega)) dX1_next_17 ?_
          refine lv_if_ne (tgt := 36) C.1 C.2.1 dX1_next_18 (by decide) (fun c18 => ?_) (fun c18 => ?_)
          · refine lv_iinc (v := nI (i + 1)) (lv' := [(2, .int (nI (i + 1))), (0, .ref h), (1, .int (nI b))]) C.1 C.2.1 dX1_next_36 hl (k := 2) rfl (nI_1 i) (by decide) rfl (fun ls hl => ?_)
            refine lv_goto (tgt := 4) C.1 C.2.1 dX1_next_39 (by decide) ?_
            exact ih (i + 1) (some b) (by omega) ((os_best_k0 (by simp [c18])).trans hob) H locs hO hS ls (lv_sub hl [1, 2, 0] rfl)
          · refine lv_iload_n C.1 C.2.1 dX1_next_21 rfl (lv_at hl 1 rfl) ?_
            refine lv_if_lt (tgt := 34) C.1 C.2.1 dX1_next_22 (by decide) (fun c22 => ?_) (fun c22 => ?_)
            · exact absurd c22 (os_nneg (by omega))
            · refine lv_aload_n C.1 C.2.1 dX1_next_25 rfl (lv_at hl 0 rfl) ?_
              refine lv_iload_n C.1 C.2.1 dX1_next_26 rfl (lv_at hl 2 rfl) ?_
              refine lv_iload_n C.1 C.2.1 dX1_next_27 rfl (lv_at hl 1 rfl) ?_
              refine om_ci (As := [.int (nI i), .int (nI b)]) (rest := []) C (mm_before l D cI cZ h ad σ i b (by omega) (by omega)) (cwV 2 C.2.2.2.2.1 (lw_V q274 q276 qs18 q24 q277) rfl rfl rfl (by decide +kernel) ⟨Nat.le_of_ble_eq_true rfl, Nat.le_of_ble_eq_true rfl⟩) hO hS rfl rfl hl.1 (Nat.le_of_ble_eq_true rfl) dX1_next_28 ⟨Nat.zero_le _, Nat.zero_le _⟩ (fun H locs hO hS => ?_)
              refine lv_if_eq (tgt := 36) C.1 C.2.1 dX1_next_31 (by decide) (fun c31 => ?_) (fun c31 => ?_)
              · refine lv_iinc (v := nI (i + 1)) (lv' := [(2, .int (nI (i + 1))), (0, .ref h), (1, .int (nI b))]) C.1 C.2.1 dX1_next_36 hl (k := 2) rfl (nI_1 i) (by decide) rfl (fun ls hl => ?_)
                refine lv_goto (tgt := 4) C.1 C.2.1 dX1_next_39 (by decide) ?_
                exact ih (i + 1) (some b) (by omega) (os_best_k1 hob (os_bit_f c31)) H locs hO hS ls (lv_sub hl [1, 2, 0] rfl)
              · refine lv_iload_n C.1 C.2.1 dX1_next_34 rfl (lv_at hl 2 rfl) ?_
                refine lv_istore_n (lv' := [(1, .int (nI i)), (0, .ref h), (2, .int (nI i))]) C.1 C.2.1 dX1_next_35 rfl hl (by decide) rfl (fun ls hl => ?_)
                refine lv_iinc (v := nI (i + 1)) (lv' := [(2, .int (nI (i + 1))), (1, .int (nI i)), (0, .ref h)]) C.1 C.2.1 dX1_next_36 hl (k := 2) rfl (nI_1 i) (by decide) rfl (fun ls hl => ?_)
                refine lv_goto (tgt := 4) C.1 C.2.1 dX1_next_39 (by decide) ?_
                exact ih (i + 1) (some i) (by omega) (os_best_t1 hob (by simp [c18]) (os_bit_t c31)) H locs hO hS ls (lv_sub hl [2, 1, 0] rfl)
  refine lv_iconst (v := -1) C.1 C.2.1 dX1_next_0 (by decide) ?_
  refine lv_istore_n (lv' := [(1, .int (-1)), (0, .ref h)]) C.1 C.2.1 dX1_next_1 rfl hl (by decide) rfl (fun ls hl => ?_)
  refine lv_iconst (v := 0) C.1 C.2.1 dX1_next_2 (by decide) ?_
  refine lv_istore_n (lv' := [(2, .int 0), (1, .int (-1)), (0, .ref h)]) C.1 C.2.1 dX1_next_3 rfl hl (by decide) rfl (fun ls hl => ?_)
  exact loop N 0 none (by omega) os_best_0 s.heap [] hO hS ls (lv_sub hl [2, 1, 0] rfl)
set_option maxHeartbeats 4000000 in
theorem mm_handle (l : Launch) (D : va_G) (cI cZ : ClassId) (h : Nat) (ad : Nat → Nat) (σ : os_St) (a : Nat) (ha : a < 96) (h7 : vp_in (σ 7 a) 4) (hc0 : ¬ σ 5 0 < 0) : os_MV l yX1_handle cX1_handle 3 (os_rm 1 24) (om_A h ad) [.ref h, .int (nI a)] (om_W D cI cZ h ad σ) (om_W D cI cZ h ad (om_handle σ a)) := by
  refine om_ev (by decide) rfl (Nat.le_of_ble_eq_true rfl) ?_
  intro pg e s m below meth c C hr hlk hO hS ls hl
  have hl : lv_has ls 3 [(0, .ref h), (1, .int (nI a))] := hl
  refine om_g7 C hO (lv_at hl 0 rfl) dX1_handle_0 dX1_handle_1 ?_
  refine lv_iload_n C.1 C.2.1 dX1_handle_4 rfl (lv_at hl 1 rfl) ?_
  refine om_l7 (j := a) C hO (nI_clamp (by omega)) (vp_in_nI (by omega) (by omega)) dX1_handle_5 ?_
  refine lv_istore_n (lv' := [(2, .int (σ 7 a)), (0, .ref h), (1, .int (nI a))]) C.1 C.2.1 dX1_handle_6 rfl hl (by decide) rfl (fun ls hl => ?_)
  refine om_g10 C hO (lv_at hl 1 rfl) dX1_handle_7 dX1_handle_8 ?_
  refine lv_iload_n C.1 C.2.1 dX1_handle_11 rfl (lv_at hl 2 rfl) ?_
  refine lv_iconst (v := 1) C.1 C.2.1 dX1_handle_12 (by decide) ?_
  refine om_s10 (j := a) C hO hS (nI_clamp (by omega)) (vp_in_nI (by omega) (by omega)) os_nz1 dX1_handle_13 (fun H locs hO hS => ?_)
  refine om_g11 C hO (lv_at hl 1 rfl) dX1_handle_14 dX1_handle_15 ?_
  refine lv_iload_n C.1 C.2.1 dX1_handle_18 rfl (lv_at hl 0 rfl) ?_
  refine om_g11 C hO (lv_at hl 1 rfl) dX1_handle_19 dX1_handle_20 ?_
  refine lv_iload_n C.1 C.2.1 dX1_handle_23 rfl (lv_at hl 0 rfl) ?_
  refine om_l11 (j := os_ix (σ 7 a)) C hO rfl h7 dX1_handle_24 ?_
  refine lv_iconst (v := 5) C.1 C.2.1 dX1_handle_25 (by decide) ?_
  refine lv_imul C.1 C.2.1 dX1_handle_26 ?_
  refine om_g8 C hO (lv_at hl 1 rfl) dX1_handle_27 dX1_handle_28 ?_
  refine lv_iload_n C.1 C.2.1 dX1_handle_31 rfl (lv_at hl 2 rfl) ?_
  refine om_l8 (j := a) C hO (nI_clamp (by omega)) (vp_in_nI (by omega) (by omega)) dX1_handle_32 ?_
  refine lv_iadd C.1 C.2.1 dX1_handle_33 ?_
  refine lv_iconst (v := 1) C.1 C.2.1 dX1_handle_34 (by decide) ?_
  refine lv_iadd C.1 C.2.1 dX1_handle_35 ?_
  refine om_s11 (j := os_ix (σ 7 a)) C hO hS rfl h7 dX1_handle_36 (fun H locs hO hS => ?_)
  refine om_g12 C hO (lv_at hl 1 rfl) dX1_handle_37 dX1_handle_38 ?_
  refine lv_iload_n C.1 C.2.1 dX1_handle_41 rfl (lv_at hl 0 rfl) ?_
  refine om_g12 C hO (lv_at hl 1 rfl) dX1_handle_42 dX1_handle_43 ?_
  refine lv_iload_n C.1 C.2.1 dX1_handle_46 rfl (lv_at hl 0 rfl) ?_
  refine om_l12 (j := os_ix (σ 7 a)) C hO rfl h7 dX1_handle_47 ?_
  refine lv_iconst (v := 1) C.1 C.2.1 dX1_handle_48 (by decide) ?_
  refine lv_iadd C.1 C.2.1 dX1_handle_49 ?_
  refine om_s12 (j := os_ix (σ 7 a)) C hO hS rfl h7 dX1_handle_50 (fun H locs hO hS => ?_)
  refine lv_aload_n C.1 C.2.1 dX1_handle_51 rfl (lv_at hl 1 rfl) ?_
  refine om_g6 C hO (lv_at hl 1 rfl) dX1_handle_52 dX1_handle_53 ?_
  refine lv_iload_n C.1 C.2.1 dX1_handle_56 rfl (lv_at hl 2 rfl) ?_
  refine om_l6 (j := a) C hO (nI_clamp (by omega)) (vp_in_nI (by omega) (by omega)) dX1_handle_57 ?_
  refine om_p13 C hO hS dX1_handle_58 (fun H locs hO hS => ?_)
  have hO : om_P D cI cZ h ad (om_hd σ a (os_ix (σ 7 a))) H := hO
  refine om_g9 C hO (lv_at hl 1 rfl) dX1_handle_61 dX1_handle_62 ?_
  refine lv_iload_n C.1 C.2.1 dX1_handle_65 rfl (lv_at hl 2 rfl) ?_
  refine om_l9 (j := a) C hO (nI_clamp (by omega)) (vp_in_nI (by omega) (by omega)) dX1_handle_66 ?_
  refine lv_if_le (tgt := 128) C.1 C.2.1 dX1_handle_67 (by decide) (fun c67 => ?_) (fun c67 => ?_)
  · have c67 := Int32.not_lt.mpr c67
    exact om_rv C hO hS (by rw [om_handle, if_neg (fun q => c67 q.1)]) hr hlk dX1_handle_128
  · have c67 := Int32.not_le.mp c67
    refine om_g11 C hO (lv_at hl 1 rfl) dX1_handle_70 dX1_handle_71 ?_
    refine lv_iload_n C.1 C.2.1 dX1_handle_74 rfl (lv_at hl 0 rfl) ?_
    refine om_l11 (j := os_ix (σ 7 a)) C hO rfl h7 dX1_handle_75 ?_
    refine om_g2 C hO (lv_at hl 1 rfl) dX1_handle_76 dX1_handle_77 ?_
    refine lv_iload_n C.1 C.2.1 dX1_handle_80 rfl (lv_at hl 0 rfl) ?_
    refine om_l2 (j := os_ix (σ 7 a)) C hO rfl h7 dX1_handle_81 ?_
    refine lv_iand C.1 C.2.1 dX1_handle_82 ?_
    refine lv_if_ne (tgt := 128) C.1 C.2.1 dX1_handle_83 (by decide) (fun c83 => ?_) (fun c83 => ?_)
    · exact om_rv C hO hS (by rw [om_handle, if_neg (fun q => c83 q.2)]) hr hlk dX1_handle_128
    · refine lv_aload_n C.1 C.2.1 dX1_handle_86 rfl (lv_at hl 1 rfl) ?_
      refine om_g0 C hO (lv_at hl 1 rfl) dX1_handle_87 dX1_handle_88 ?_
      refine lv_iload_n C.1 C.2.1 dX1_handle_91 rfl (lv_at hl 0 rfl) ?_
      refine om_l0 (j := os_ix (σ 7 a)) C hO rfl h7 dX1_handle_92 ?_
      refine om_g6 C hO (lv_at hl 1 rfl) dX1_handle_93 dX1_handle_94 ?_
      refine lv_iload_n C.1 C.2.1 dX1_handle_97 rfl (lv_at hl 2 rfl) ?_
      refine om_l6 (j := a) C hO (nI_clamp (by omega)) (vp_in_nI (by omega) (by omega)) dX1_handle_98 ?_
      refine om_g1 C hO (lv_at hl 1 rfl) dX1_handle_99 dX1_handle_100 ?_
      refine lv_iload_n C.1 C.2.1 dX1_handle_103 rfl (lv_at hl 0 rfl) ?_
      refine om_l1 (j := os_ix (σ 7 a)) C hO rfl h7 dX1_handle_104 ?_
      refine lv_iadd C.1 C.2.1 dX1_handle_105 ?_
      refine om_g11 C hO (lv_at hl 1 rfl) dX1_handle_106 dX1_handle_107 ?_
      refine lv_iload_n C.1 C.2.1 dX1_handle_110 rfl (lv_at hl 0 rfl) ?_
      refine om_l11 (j := os_ix (σ 7 a)) C hO rfl h7 dX1_handle_111 ?_
      refine lv_iconst (v := 2) C.1 C.2.1 dX1_handle_112 (by decide) ?_
      refine lv_ishr C.1 C.2.1 dX1_handle_113 ?_
      refine lv_bipush (v := 15) C.1 C.2.1 dX1_handle_114 (by decide) ?_
      refine lv_iand C.1 C.2.1 dX1_handle_116 ?_
      refine om_g9 C hO (lv_at hl 1 rfl) dX1_handle_117 dX1_handle_118 ?_
      refine lv_iload_n C.1 C.2.1 dX1_handle_121 rfl (lv_at hl 2 rfl) ?_
      refine om_l9 (j := a) C hO (nI_clamp (by omega)) (vp_in_nI (by omega) (by omega)) dX1_handle_122 ?_
      refine lv_iconst (v := 1) C.1 C.2.1 dX1_handle_123 (by decide) ?_
      refine lv_isub C.1 C.2.1 dX1_handle_124 ?_
      refine om_cv (As := [.int ((om_hd σ a (os_ix (σ 7 a))) 0 (os_ix (σ 7 a))), .int (((om_hd σ a (os_ix (σ 7 a))) 6 a) + ((om_hd σ a (os_ix (σ 7 a))) 1 (os_ix (σ 7 a)))), .int ((((om_hd σ a (os_ix (σ 7 a))) 11 (os_ix (σ 7 a))) >>> ((2 : Int32) &&& 31)) &&& 15), .int (((om_hd σ a (os_ix (σ 7 a))) 9 a) - 1)]) (rest := []) C (mm_put l D cI cZ h ad (om_hd σ a (os_ix (σ 7 a))) ((om_hd σ a (os_ix (σ 7 a))) 0 (os_ix (σ 7 a))) (((om_hd σ a (os_ix (σ 7 a))) 6 a) + ((om_hd σ a (os_ix (σ 7 a))) 1 (os_ix (σ 7 a)))) ((((om_hd σ a (os_ix (σ 7 a))) 11 (os_ix (σ 7 a))) >>> ((2 : Int32) &&& 31)) &&& 15) (((om_hd σ a (os_ix (σ 7 a))) 9 a) - 1) hc0) (cwV 4 C.2.2.2.2.1 (lw_V q254 q256 qs15 q24 q257) rfl rfl rfl (by decide +kernel) ⟨Nat.le_of_ble_eq_true rfl, Nat.le_of_ble_eq_true rfl⟩) hO hS rfl rfl hl.1 (Nat.le_of_ble_eq_true rfl) dX1_handle_125 ⟨Nat.zero_le _, Nat.zero_le _⟩ (fun H locs hO hS => ?_)
      exact om_rv C hO hS (by rw [om_handle, if_pos ⟨c67, c83⟩]) hr hlk dX1_handle_128
set_option maxHeartbeats 4000000 in
theorem mm_sim (l : Launch) (D : va_G) (cI cZ : ClassId) (h : Nat) (ad : Nat → Nat) (σ : os_St) (t : Int32) (hbd : om_bd (om_sim0 σ)) : os_MV l yX1_simulate cX1_simulate 4 (os_rm 2 46) (om_A h ad) [.ref h, .int t] (om_W D cI cZ h ad σ) (om_W D cI cZ h ad (om_sim σ t)) := by
  refine om_ev (by decide) rfl (Nat.le_of_ble_eq_true rfl) ?_
  intro pg e s m below meth c C hr hlk hO hS ls hl
  have hl : lv_has ls 4 [(0, .ref h), (1, .int t)] := hl
  have loop3 : ∀ (n i : Nat), i + n = 96 → om_bd (om_simF t (om_sim0 σ) i) → ∀ (H : Heap) (locs : List Loc), om_P D cI cZ h ad (om_simF t (om_sim0 σ) i) H → va_S (om_A h ad) s.heap H locs → ∀ ls : Array Slot, lv_has ls 4 [(0, .ref h), (1, .int t), (2, .int (nI i))] → W pg l e (os_rm 2 46) s m ([.ref h, .int t] : List Value).toArray below meth c H locs 0 0 (om_QV below D cI cZ h ad (om_sim σ t) ([.ref h, .int t] : List Value).toArray s) (F0 m 63 ls []) := by
    intro n
    induction n with
    | zero =>
      intro i hi hB H locs hO hS ls hl
      obtain rfl : i = 96 := by omega
      refine lv_iload_n C.1 C.2.1 dX1_simulate_63 rfl (lv_at hl 2 rfl) ?_
      refine lv_bipush (v := 96) C.1 C.2.1 dX1_simulate_64 (by decide) ?_
      refine lv_icmp_ge (tgt := 99) C.1 C.2.1 dX1_simulate_66 (by decide) (fun c66 => ?_) (fun c66 => ?_)
      · have c66 := Int32.not_lt.mpr c66
        exact om_rv C hO hS rfl hr hlk dX1_simulate_99
      · have c66 := Int32.not_le.mp c66
        exact absurd c66 (by decide)
    | succ n ih =>
      intro i hi hB H locs hO hS ls hl
      have hB' := hB
      obtain ⟨-, -, N, hN96, hN⟩ := hB'
      have hB2 : om_bd (om_simF t (om_sim0 σ) (i + 1)) := bm_step hB
      refine lv_iload_n C.1 C.2.1 dX1_simulate_63 rfl (lv_at hl 2 rfl) ?_
      refine lv_bipush (v := 96) C.1 C.2.1 dX1_simulate_64 (by decide) ?_
      refine lv_icmp_ge (tgt := 99) C.1 C.2.1 dX1_simulate_66 (by decide) (fun c66 => ?_) (fun c66 => ?_)
      · have c66 := Int32.not_lt.mpr c66
        exact absurd (nI_lt (a := i) (b := 96) (by omega) (by omega)) c66
      · have c66 := Int32.not_le.mp c66
        refine lv_aload_n C.1 C.2.1 dX1_simulate_69 rfl (lv_at hl 0 rfl) ?_
        refine om_ci (As := []) (rest := []) C (mm_next l D cI cZ h ad (om_simF t (om_sim0 σ) i) N hN hN96) (cwV 0 C.2.2.2.2.1 (lw_V q270 q272 qs17 q24 q273) rfl rfl rfl (by decide +kernel) ⟨Nat.le_of_ble_eq_true rfl, Nat.le_of_ble_eq_true rfl⟩) hO hS rfl rfl hl.1 (Nat.le_of_ble_eq_true rfl) dX1_simulate_70 ⟨Nat.zero_le _, Nat.zero_le _⟩ (fun H locs hO hS => ?_)
        cases hnx : om_next (om_simF t (om_sim0 σ) i) N with
        | none =>
          have ee : om_simF t (om_sim0 σ) (i + 1) = om_simF t (om_sim0 σ) i := by rw [om_simF, om_step, hN, os_ix, nI_clamp (by omega), hnx, om_hopt]
          rw [ee] at hB2
          refine lv_istore_n (lv' := [(3, .int (os_enc none)), (0, .ref h), (1, .int t), (2, .int (nI i))]) C.1 C.2.1 dX1_simulate_73 rfl hl (by decide) rfl (fun ls hl => ?_)
          refine lv_iload_n C.1 C.2.1 dX1_simulate_74 rfl (lv_at hl 0 rfl) ?_
          refine lv_if_lt (tgt := 93) C.1 C.2.1 dX1_simulate_75 (by decide) (fun c75 => ?_) (fun c75 => ?_)
          · refine lv_iinc (v := nI (i + 1)) (lv' := [(2, .int (nI (i + 1))), (3, .int (os_enc none)), (0, .ref h), (1, .int t)]) C.1 C.2.1 dX1_simulate_93 hl (k := 3) rfl (nI_1 i) (by decide) rfl (fun ls hl => ?_)
            refine lv_goto (tgt := 63) C.1 C.2.1 dX1_simulate_96 (by decide) ?_
            exact ih (i + 1) (by omega) (by rw [ee]; exact hB2) H locs (by rw [ee]; exact hO) hS ls (lv_sub hl [2, 3, 0] rfl)
          · exact absurd os_m1neg c75
        | some k =>
          have hk : k < N := os_best_lt hnx
          show W pg l e (os_rm 2 46) s m ([.ref h, .int t] : List Value).toArray below meth c H locs 0 0 (om_QV below D cI cZ h ad (om_sim σ t) ([.ref h, .int t] : List Value).toArray s) (F0 m 73 ls [.int (nI k)])
          refine lv_istore_n (lv' := [(3, .int (nI k)), (0, .ref h), (1, .int t), (2, .int (nI i))]) C.1 C.2.1 dX1_simulate_73 rfl hl (by decide) rfl (fun ls hl => ?_)
          refine lv_iload_n C.1 C.2.1 dX1_simulate_74 rfl (lv_at hl 0 rfl) ?_
          refine lv_if_lt (tgt := 93) C.1 C.2.1 dX1_simulate_75 (by decide) (fun c75 => ?_) (fun c75 => ?_)
          · exact absurd c75 (os_nneg (by omega))
          · refine om_g6 C hO (lv_at hl 1 rfl) dX1_simulate_78 dX1_simulate_79 ?_
            refine lv_iload_n C.1 C.2.1 dX1_simulate_82 rfl (lv_at hl 0 rfl) ?_
            refine om_l6 (j := k) C hO (nI_clamp (by omega)) (vp_in_nI (by omega) (by omega)) dX1_simulate_83 ?_
            refine lv_iload_n C.1 C.2.1 dX1_simulate_84 rfl (lv_at hl 2 rfl) ?_
            refine lv_icmp_gt (tgt := 93) C.1 C.2.1 dX1_simulate_85 (by decide) (fun c85 => ?_) (fun c85 => ?_)
            · have ee : om_simF t (om_sim0 σ) (i + 1) = om_simF t (om_sim0 σ) i := by rw [om_simF, om_step, hN, os_ix, nI_clamp (by omega), hnx, om_hopt, if_pos c85]
              rw [ee] at hB2
              refine lv_iinc (v := nI (i + 1)) (lv' := [(2, .int (nI (i + 1))), (3, .int (nI k)), (0, .ref h), (1, .int t)]) C.1 C.2.1 dX1_simulate_93 hl (k := 3) rfl (nI_1 i) (by decide) rfl (fun ls hl => ?_)
              refine lv_goto (tgt := 63) C.1 C.2.1 dX1_simulate_96 (by decide) ?_
              exact ih (i + 1) (by omega) (by rw [ee]; exact hB2) H locs (by rw [ee]; exact hO) hS ls (lv_sub hl [2, 3, 0] rfl)
            · refine lv_aload_n C.1 C.2.1 dX1_simulate_88 rfl (lv_at hl 1 rfl) ?_
              refine lv_iload_n C.1 C.2.1 dX1_simulate_89 rfl (lv_at hl 0 rfl) ?_
              refine om_cv (As := [.int (nI k)]) (rest := []) C (mm_handle l D cI cZ h ad (om_simF t (om_sim0 σ) i) k (by omega) (hB.1 k (by omega)) (by rw [hN]; exact os_nneg (by omega))) (cwV 1 C.2.2.2.2.1 (lw_V q278 q280 qs19 q24 q281) rfl rfl rfl (by decide +kernel) ⟨Nat.le_of_ble_eq_true rfl, Nat.le_of_ble_eq_true rfl⟩) hO hS rfl rfl hl.1 (Nat.le_of_ble_eq_true rfl) dX1_simulate_90 ⟨Nat.zero_le _, Nat.zero_le _⟩ (fun H locs hO hS => ?_)
              have ee : om_simF t (om_sim0 σ) (i + 1) = om_handle (om_simF t (om_sim0 σ) i) k := by rw [om_simF, om_step, hN, os_ix, nI_clamp (by omega), hnx, om_hopt, if_neg c85]
              rw [ee] at hB2
              refine lv_iinc (v := nI (i + 1)) (lv' := [(2, .int (nI (i + 1))), (3, .int (nI k)), (0, .ref h), (1, .int t)]) C.1 C.2.1 dX1_simulate_93 hl (k := 3) rfl (nI_1 i) (by decide) rfl (fun ls hl => ?_)
              refine lv_goto (tgt := 63) C.1 C.2.1 dX1_simulate_96 (by decide) ?_
              exact ih (i + 1) (by omega) (by rw [ee]; exact hB2) H locs (by rw [ee]; exact hO) hS ls (lv_sub hl [2, 3, 0] rfl)
  have loop2 : ∀ (n i : Nat), i + n = 4 → ∀ (H : Heap) (locs : List Loc), om_P D cI cZ h ad (om_sim3 (om_sim2 (om_sim1 σ) 96) i) H → va_S (om_A h ad) s.heap H locs → ∀ ls : Array Slot, lv_has ls 4 [(0, .ref h), (1, .int t), (2, .int (nI i))] → W pg l e (os_rm 2 46) s m ([.ref h, .int t] : List Value).toArray below meth c H locs 0 0 (om_QV below D cI cZ h ad (om_sim σ t) ([.ref h, .int t] : List Value).toArray s) (F0 m 36 ls []) := by
    intro n
    induction n with
    | zero =>
      intro i hi H locs hO hS ls hl
      obtain rfl : i = 4 := by omega
      refine lv_iload_n C.1 C.2.1 dX1_simulate_36 rfl (lv_at hl 2 rfl) ?_
      refine lv_iconst (v := 4) C.1 C.2.1 dX1_simulate_37 (by decide) ?_
      refine lv_icmp_ge (tgt := 61) C.1 C.2.1 dX1_simulate_38 (by decide) (fun c38 => ?_) (fun c38 => ?_)
      · have c38 := Int32.not_lt.mpr c38
        refine lv_iconst (v := 0) C.1 C.2.1 dX1_simulate_61 (by decide) ?_
        refine lv_istore_n (lv' := [(2, .int 0), (0, .ref h), (1, .int t)]) C.1 C.2.1 dX1_simulate_62 rfl hl (by decide) rfl (fun ls hl => ?_)
        exact loop3 96 0 rfl hbd H locs hO hS ls (lv_sub hl [1, 2, 0] rfl)
      · have c38 := Int32.not_le.mp c38
        exact absurd c38 (by decide)
    | succ n ih =>
      intro i hi H locs hO hS ls hl
      refine lv_iload_n C.1 C.2.1 dX1_simulate_36 rfl (lv_at hl 2 rfl) ?_
      refine lv_iconst (v := 4) C.1 C.2.1 dX1_simulate_37 (by decide) ?_
      refine lv_icmp_ge (tgt := 61) C.1 C.2.1 dX1_simulate_38 (by decide) (fun c38 => ?_) (fun c38 => ?_)
      · have c38 := Int32.not_lt.mpr c38
        exact absurd (nI_lt (a := i) (b := 4) (by omega) (by omega)) c38
      · have c38 := Int32.not_le.mp c38
        refine om_g11 C hO (lv_at hl 0 rfl) dX1_simulate_41 dX1_simulate_42 ?_
        refine lv_iload_n C.1 C.2.1 dX1_simulate_45 rfl (lv_at hl 2 rfl) ?_
        refine lv_iconst (v := 0) C.1 C.2.1 dX1_simulate_46 (by decide) ?_
        refine om_s11 (j := i) C hO hS (nI_clamp (by omega)) (vp_in_nI (by omega) (by omega)) dX1_simulate_47 (fun H locs hO hS => ?_)
        refine om_g12 C hO (lv_at hl 0 rfl) dX1_simulate_48 dX1_simulate_49 ?_
        refine lv_iload_n C.1 C.2.1 dX1_simulate_52 rfl (lv_at hl 2 rfl) ?_
        refine lv_iconst (v := 0) C.1 C.2.1 dX1_simulate_53 (by decide) ?_
        refine om_s12 (j := i) C hO hS (nI_clamp (by omega)) (vp_in_nI (by omega) (by omega)) dX1_simulate_54 (fun H locs hO hS => ?_)
        refine lv_iinc (v := nI (i + 1)) (lv' := [(2, .int (nI (i + 1))), (0, .ref h), (1, .int t)]) C.1 C.2.1 dX1_simulate_55 hl (k := 2) rfl (nI_1 i) (by decide) rfl (fun ls hl => ?_)
        refine lv_goto (tgt := 36) C.1 C.2.1 dX1_simulate_58 (by decide) ?_
        exact ih (i + 1) (by omega) H locs hO hS ls (lv_sub hl [1, 2, 0] rfl)
  have loop1 : ∀ (n i : Nat), i + n = 96 → ∀ (H : Heap) (locs : List Loc), om_P D cI cZ h ad (om_sim2 (om_sim1 σ) i) H → va_S (om_A h ad) s.heap H locs → ∀ ls : Array Slot, lv_has ls 4 [(0, .ref h), (1, .int t), (2, .int (nI i))] → W pg l e (os_rm 2 46) s m ([.ref h, .int t] : List Value).toArray below meth c H locs 0 0 (om_QV below D cI cZ h ad (om_sim σ t) ([.ref h, .int t] : List Value).toArray s) (F0 m 15 ls []) := by
    intro n
    induction n with
    | zero =>
      intro i hi H locs hO hS ls hl
      obtain rfl : i = 96 := by omega
      refine lv_iload_n C.1 C.2.1 dX1_simulate_15 rfl (lv_at hl 2 rfl) ?_
      refine lv_bipush (v := 96) C.1 C.2.1 dX1_simulate_16 (by decide) ?_
      refine lv_icmp_ge (tgt := 34) C.1 C.2.1 dX1_simulate_18 (by decide) (fun c18 => ?_) (fun c18 => ?_)
      · have c18 := Int32.not_lt.mpr c18
        refine lv_iconst (v := 0) C.1 C.2.1 dX1_simulate_34 (by decide) ?_
        refine lv_istore_n (lv' := [(2, .int 0), (0, .ref h), (1, .int t)]) C.1 C.2.1 dX1_simulate_35 rfl hl (by decide) rfl (fun ls hl => ?_)
        exact loop2 4 0 rfl H locs hO hS ls (lv_sub hl [1, 2, 0] rfl)
      · have c18 := Int32.not_le.mp c18
        exact absurd c18 (by decide)
    | succ n ih =>
      intro i hi H locs hO hS ls hl
      refine lv_iload_n C.1 C.2.1 dX1_simulate_15 rfl (lv_at hl 2 rfl) ?_
      refine lv_bipush (v := 96) C.1 C.2.1 dX1_simulate_16 (by decide) ?_
      refine lv_icmp_ge (tgt := 34) C.1 C.2.1 dX1_simulate_18 (by decide) (fun c18 => ?_) (fun c18 => ?_)
      · have c18 := Int32.not_lt.mpr c18
        exact absurd (nI_lt (a := i) (b := 96) (by omega) (by omega)) c18
      · have c18 := Int32.not_le.mp c18
        refine om_g10 C hO (lv_at hl 0 rfl) dX1_simulate_21 dX1_simulate_22 ?_
        refine lv_iload_n C.1 C.2.1 dX1_simulate_25 rfl (lv_at hl 2 rfl) ?_
        refine lv_iconst (v := 0) C.1 C.2.1 dX1_simulate_26 (by decide) ?_
        refine om_s10 (j := i) C hO hS (nI_clamp (by omega)) (vp_in_nI (by omega) (by omega)) os_nz0 dX1_simulate_27 (fun H locs hO hS => ?_)
        refine lv_iinc (v := nI (i + 1)) (lv' := [(2, .int (nI (i + 1))), (0, .ref h), (1, .int t)]) C.1 C.2.1 dX1_simulate_28 hl (k := 2) rfl (nI_1 i) (by decide) rfl (fun ls hl => ?_)
        refine lv_goto (tgt := 15) C.1 C.2.1 dX1_simulate_31 (by decide) ?_
        exact ih (i + 1) (by omega) H locs hO hS ls (lv_sub hl [1, 2, 0] rfl)
  refine lv_aload_n C.1 C.2.1 dX1_simulate_0 rfl (lv_at hl 0 rfl) ?_
  refine om_g3 C hO (lv_at hl 0 rfl) dX1_simulate_1 dX1_simulate_2 ?_
  refine om_p5 C hO hS dX1_simulate_5 (fun H locs hO hS => ?_)
  refine lv_aload_n C.1 C.2.1 dX1_simulate_8 rfl (lv_at hl 0 rfl) ?_
  refine lv_iconst (v := -1) C.1 C.2.1 dX1_simulate_9 (by decide) ?_
  refine om_p13 C hO hS dX1_simulate_10 (fun H locs hO hS => ?_)
  refine lv_iconst (v := 0) C.1 C.2.1 dX1_simulate_13 (by decide) ?_
  refine lv_istore_n (lv' := [(2, .int 0), (0, .ref h), (1, .int t)]) C.1 C.2.1 dX1_simulate_14 rfl hl (by decide) rfl (fun ls hl => ?_)
  exact loop1 96 0 rfl H locs hO hS ls (lv_sub hl [1, 2, 0] rfl)
set_option maxHeartbeats 4000000 in
theorem mm_all (l : Launch) (D : va_G) (cI cZ : ClassId) (h : Nat) (ad : Nat → Nat) (σ : os_St) : os_MI l yX1_all cX1_all 1 .int (os_rm 0 0) (om_A h ad) [.ref h] (om_W D cI cZ h ad σ) (om_W D cI cZ h ad σ) (om_all σ) := by
  refine om_ei (by decide) rfl (Nat.le_of_ble_eq_true rfl) ?_
  intro pg e s m below meth c C hr hlk hO hS ls hl
  have hl : lv_has ls 1 [(0, .ref h)] := hl
  refine om_g12 C hO (lv_at hl 0 rfl) dX1_all_0 dX1_all_1 ?_
  refine lv_iconst (v := 0) C.1 C.2.1 dX1_all_4 (by decide) ?_
  refine om_l12 (j := 0) C hO rfl (vp_in_nI (n := 0) (by decide) (by decide)) dX1_all_5 ?_
  refine om_g12 C hO (lv_at hl 0 rfl) dX1_all_6 dX1_all_7 ?_
  refine lv_iconst (v := 1) C.1 C.2.1 dX1_all_10 (by decide) ?_
  refine om_l12 (j := 1) C hO rfl (vp_in_nI (n := 1) (by decide) (by decide)) dX1_all_11 ?_
  refine lv_iadd C.1 C.2.1 dX1_all_12 ?_
  refine om_g12 C hO (lv_at hl 0 rfl) dX1_all_13 dX1_all_14 ?_
  refine lv_iconst (v := 2) C.1 C.2.1 dX1_all_17 (by decide) ?_
  refine om_l12 (j := 2) C hO rfl (vp_in_nI (n := 2) (by decide) (by decide)) dX1_all_18 ?_
  refine lv_iadd C.1 C.2.1 dX1_all_19 ?_
  refine om_g12 C hO (lv_at hl 0 rfl) dX1_all_20 dX1_all_21 ?_
  refine lv_iconst (v := 3) C.1 C.2.1 dX1_all_24 (by decide) ?_
  refine om_l12 (j := 3) C hO rfl (vp_in_nI (n := 3) (by decide) (by decide)) dX1_all_25 ?_
  refine lv_iadd C.1 C.2.1 dX1_all_26 ?_
  exact om_ri C hO hS (rfl) rfl hr hlk dX1_all_27
set_option maxHeartbeats 4000000 in
theorem mm_ask (l : Launch) (D : va_G) (cI cZ : ClassId) (h : Nat) (ad : Nat → Nat) (σ : os_St) (t : Int32) : os_MI l yX1_askable cX1_askable 2 .boolean (os_rm 0 0) (om_A h ad) [.ref h, .int t] (om_W D cI cZ h ad σ) (om_W D cI cZ h ad σ) (os_bit (om_askable σ t)) := by
  refine om_ei (by decide) rfl (Nat.le_of_ble_eq_true rfl) ?_
  intro pg e s m below meth c C hr hlk hO hS ls hl
  have hl : lv_has ls 2 [(0, .ref h), (1, .int t)] := hl
  refine lv_iload_n C.1 C.2.1 dX1_askable_0 rfl (lv_at hl 1 rfl) ?_
  refine om_g4 C hO (lv_at hl 0 rfl) dX1_askable_1 dX1_askable_2 ?_
  refine lv_icmp_lt (tgt := 19) C.1 C.2.1 dX1_askable_5 (by decide) (fun c5 => ?_) (fun c5 => ?_)
  · refine lv_iconst (v := 0) C.1 C.2.1 dX1_askable_19 (by decide) ?_
    exact om_rz C hO hS (by simp [om_askable, os_bit, ← Int32.not_lt, c5]) rfl rfl hr hlk dX1_askable_20
  · refine lv_iload_n C.1 C.2.1 dX1_askable_8 rfl (lv_at hl 1 rfl) ?_
    refine lv_sipush (v := 200) C.1 C.2.1 dX1_askable_9 (by decide) ?_
    refine lv_icmp_gt (tgt := 19) C.1 C.2.1 dX1_askable_12 (by decide) (fun c12 => ?_) (fun c12 => ?_)
    · refine lv_iconst (v := 0) C.1 C.2.1 dX1_askable_19 (by decide) ?_
      exact om_rz C hO hS (by simp [om_askable, os_bit, ← Int32.not_lt, c5, c12]) rfl rfl hr hlk dX1_askable_20
    · refine lv_iconst (v := 1) C.1 C.2.1 dX1_askable_15 (by decide) ?_
      refine lv_goto (tgt := 20) C.1 C.2.1 dX1_askable_16 (by decide) ?_
      exact om_rz C hO hS (by simp [om_askable, os_bit, ← Int32.not_lt, c5, c12]) rfl rfl hr hlk dX1_askable_20
set_option maxHeartbeats 4000000 in
theorem mm_rule (l : Launch) (D : va_G) (cI cZ : ClassId) (h : Nat) (ad : Nat → Nat) (σ : os_St) (x t d k : Int32) : os_MI l yX1_rule cX1_rule 5 .int (os_rm 1 21) (om_A h ad) [.ref h, .int x, .int t, .int d, .int k] (om_W D cI cZ h ad σ) (om_W D cI cZ h ad ((om_rule σ x t d k).2)) ((om_rule σ x t d k).1) := by
  refine om_ei (by decide) rfl (Nat.le_of_ble_eq_true rfl) ?_
  intro pg e s m below meth c C hr hlk hO hS ls hl
  have hl : lv_has ls 5 [(0, .ref h), (1, .int x), (2, .int t), (3, .int d), (4, .int k)] := hl
  refine lv_aload_n C.1 C.2.1 dX1_rule_0 rfl (lv_at hl 0 rfl) ?_
  refine lv_iload_n C.1 C.2.1 dX1_rule_1 rfl (lv_at hl 1 rfl) ?_
  refine om_ci (As := [.int x]) (rest := []) C (mm_bad l D cI cZ h ad σ x) (cwV 1 C.2.2.2.2.1 (lw_V q246 q248 qs14 q24 q249) rfl rfl rfl (by decide +kernel) ⟨Nat.le_of_ble_eq_true rfl, Nat.le_of_ble_eq_true rfl⟩) hO hS rfl rfl hl.1 (Nat.le_of_ble_eq_true rfl) dX1_rule_2 ⟨Nat.zero_le _, Nat.zero_le _⟩ (fun H locs hO hS => ?_)
  refine lv_if_ne (tgt := 16) C.1 C.2.1 dX1_rule_5 (by decide) (fun c5 => ?_) (fun c5 => ?_)
  · refine lv_iconst (v := -1) C.1 C.2.1 dX1_rule_16 (by decide) ?_
    exact om_ri C hO hS (by rw [om_rule, if_pos (Or.inl (os_bit_t c5))]) (by rw [om_rule, if_pos (Or.inl (os_bit_t c5))]) hr hlk dX1_rule_17
  · refine lv_aload_n C.1 C.2.1 dX1_rule_8 rfl (lv_at hl 0 rfl) ?_
    refine lv_iload_n C.1 C.2.1 dX1_rule_9 rfl (lv_at hl 2 rfl) ?_
    refine om_ci (As := [.int t]) (rest := []) C (mm_bad l D cI cZ h ad σ t) (cwV 1 C.2.2.2.2.1 (lw_V q246 q248 qs14 q24 q249) rfl rfl rfl (by decide +kernel) ⟨Nat.le_of_ble_eq_true rfl, Nat.le_of_ble_eq_true rfl⟩) hO hS rfl rfl hl.1 (Nat.le_of_ble_eq_true rfl) dX1_rule_10 ⟨Nat.zero_le _, Nat.zero_le _⟩ (fun H locs hO hS => ?_)
    refine lv_if_eq (tgt := 18) C.1 C.2.1 dX1_rule_13 (by decide) (fun c13 => ?_) (fun c13 => ?_)
    · refine lv_iload_n C.1 C.2.1 dX1_rule_18 rfl (lv_at hl 3 rfl) ?_
      refine lv_iconst (v := 1) C.1 C.2.1 dX1_rule_19 (by decide) ?_
      refine lv_icmp_lt (tgt := 41) C.1 C.2.1 dX1_rule_20 (by decide) (fun c20 => ?_) (fun c20 => ?_)
      · refine lv_bipush (v := -2) C.1 C.2.1 dX1_rule_41 (by decide) ?_
        exact om_ri C hO hS (by rw [om_rule, if_neg (fun q => q.elim (fun q => by rw [os_bit_f c5] at q; cases q) (fun q => by rw [os_bit_f c13] at q; cases q)), if_pos (Or.inl c20)]) (by rw [om_rule, if_neg (fun q => q.elim (fun q => by rw [os_bit_f c5] at q; cases q) (fun q => by rw [os_bit_f c13] at q; cases q)), if_pos (Or.inl c20)]) hr hlk dX1_rule_43
      · refine lv_iload_n C.1 C.2.1 dX1_rule_23 rfl (lv_at hl 3 rfl) ?_
        refine lv_bipush (v := 9) C.1 C.2.1 dX1_rule_24 (by decide) ?_
        refine lv_icmp_gt (tgt := 41) C.1 C.2.1 dX1_rule_26 (by decide) (fun c26 => ?_) (fun c26 => ?_)
        · refine lv_bipush (v := -2) C.1 C.2.1 dX1_rule_41 (by decide) ?_
          exact om_ri C hO hS (by rw [om_rule, if_neg (fun q => q.elim (fun q => by rw [os_bit_f c5] at q; cases q) (fun q => by rw [os_bit_f c13] at q; cases q)), if_pos (Or.inr (Or.inl c26))]) (by rw [om_rule, if_neg (fun q => q.elim (fun q => by rw [os_bit_f c5] at q; cases q) (fun q => by rw [os_bit_f c13] at q; cases q)), if_pos (Or.inr (Or.inl c26))]) hr hlk dX1_rule_43
        · refine lv_iload C.1 C.2.1 dX1_rule_29 (lv_at hl 4 rfl) ?_
          refine lv_if_lt (tgt := 41) C.1 C.2.1 dX1_rule_31 (by decide) (fun c31 => ?_) (fun c31 => ?_)
          · refine lv_bipush (v := -2) C.1 C.2.1 dX1_rule_41 (by decide) ?_
            exact om_ri C hO hS (by rw [om_rule, if_neg (fun q => q.elim (fun q => by rw [os_bit_f c5] at q; cases q) (fun q => by rw [os_bit_f c13] at q; cases q)), if_pos (Or.inr (Or.inr (Or.inl c31)))]) (by rw [om_rule, if_neg (fun q => q.elim (fun q => by rw [os_bit_f c5] at q; cases q) (fun q => by rw [os_bit_f c13] at q; cases q)), if_pos (Or.inr (Or.inr (Or.inl c31)))]) hr hlk dX1_rule_43
          · refine lv_iload C.1 C.2.1 dX1_rule_34 (lv_at hl 4 rfl) ?_
            refine lv_bipush (v := 15) C.1 C.2.1 dX1_rule_36 (by decide) ?_
            refine lv_icmp_le (tgt := 44) C.1 C.2.1 dX1_rule_38 (by decide) (fun c38 => ?_) (fun c38 => ?_)
            · have c38 := Int32.not_lt.mpr c38
              refine om_g3 C hO (lv_at hl 0 rfl) dX1_rule_44 dX1_rule_45 ?_
              refine lv_if_le (tgt := 54) C.1 C.2.1 dX1_rule_48 (by decide) (fun c48 => ?_) (fun c48 => ?_)
              · have c48 := Int32.not_lt.mpr c48
                have hx : vp_in x 4 := om_bad_in (os_bit_f c5)
                have er : om_rule σ x t d k = (0, os_set (os_set (os_set σ 0 (os_ix x) t) 1 (os_ix x) d) 2 (os_ix x) k) := by
                  rw [om_rule, if_neg (fun q => q.elim (fun q => by rw [os_bit_f c5] at q; cases q) (fun q => by rw [os_bit_f c13] at q; cases q)), if_neg (fun q => q.elim c20 (fun q => q.elim c26 (fun q => q.elim c31 c38))), if_neg c48]
                refine om_g0 C hO (lv_at hl 0 rfl) dX1_rule_54 dX1_rule_55 ?_
                refine lv_iload_n C.1 C.2.1 dX1_rule_58 rfl (lv_at hl 1 rfl) ?_
                refine lv_iload_n C.1 C.2.1 dX1_rule_59 rfl (lv_at hl 2 rfl) ?_
                refine om_s0 (j := os_ix x) C hO hS rfl hx dX1_rule_60 (fun H locs hO hS => ?_)
                refine om_g1 C hO (lv_at hl 0 rfl) dX1_rule_61 dX1_rule_62 ?_
                refine lv_iload_n C.1 C.2.1 dX1_rule_65 rfl (lv_at hl 1 rfl) ?_
                refine lv_iload_n C.1 C.2.1 dX1_rule_66 rfl (lv_at hl 3 rfl) ?_
                refine om_s1 (j := os_ix x) C hO hS rfl hx dX1_rule_67 (fun H locs hO hS => ?_)
                refine om_g2 C hO (lv_at hl 0 rfl) dX1_rule_68 dX1_rule_69 ?_
                refine lv_iload_n C.1 C.2.1 dX1_rule_72 rfl (lv_at hl 1 rfl) ?_
                refine lv_iload C.1 C.2.1 dX1_rule_73 (lv_at hl 4 rfl) ?_
                refine om_s2 (j := os_ix x) C hO hS rfl hx dX1_rule_75 (fun H locs hO hS => ?_)
                refine lv_iconst (v := 0) C.1 C.2.1 dX1_rule_76 (by decide) ?_
                exact om_ri C hO hS (by rw [er]) (by rw [er]) hr hlk dX1_rule_77
              · have c48 := Int32.not_le.mp c48
                refine lv_bipush (v := -5) C.1 C.2.1 dX1_rule_51 (by decide) ?_
                exact om_ri C hO hS (by rw [om_rule, if_neg (fun q => q.elim (fun q => by rw [os_bit_f c5] at q; cases q) (fun q => by rw [os_bit_f c13] at q; cases q)), if_neg (fun q => q.elim c20 (fun q => q.elim c26 (fun q => q.elim c31 c38))), if_pos c48]) (by rw [om_rule, if_neg (fun q => q.elim (fun q => by rw [os_bit_f c5] at q; cases q) (fun q => by rw [os_bit_f c13] at q; cases q)), if_neg (fun q => q.elim c20 (fun q => q.elim c26 (fun q => q.elim c31 c38))), if_pos c48]) hr hlk dX1_rule_53
            · have c38 := Int32.not_le.mp c38
              refine lv_bipush (v := -2) C.1 C.2.1 dX1_rule_41 (by decide) ?_
              exact om_ri C hO hS (by rw [om_rule, if_neg (fun q => q.elim (fun q => by rw [os_bit_f c5] at q; cases q) (fun q => by rw [os_bit_f c13] at q; cases q)), if_pos (Or.inr (Or.inr (Or.inr c38)))]) (by rw [om_rule, if_neg (fun q => q.elim (fun q => by rw [os_bit_f c5] at q; cases q) (fun q => by rw [os_bit_f c13] at q; cases q)), if_pos (Or.inr (Or.inr (Or.inr c38)))]) hr hlk dX1_rule_43
    · refine lv_iconst (v := -1) C.1 C.2.1 dX1_rule_16 (by decide) ?_
      exact om_ri C hO hS (by rw [om_rule, if_pos (Or.inr (os_bit_t c13))]) (by rw [om_rule, if_pos (Or.inr (os_bit_t c13))]) hr hlk dX1_rule_17
set_option maxHeartbeats 4000000 in
theorem mm_inject (l : Launch) (D : va_G) (cI cZ : ClassId) (h : Nat) (ad : Nat → Nat) (σ : os_St) (x t w : Int32) (hi0 : ¬ σ 3 0 < 0) : os_MI l yX1_inject cX1_inject 4 .int (os_rm 1 24) (om_A h ad) [.ref h, .int x, .int t, .int w] (om_W D cI cZ h ad σ) (om_W D cI cZ h ad ((om_inject σ x t w).2)) ((om_inject σ x t w).1) := by
  refine om_ei (by decide) rfl (Nat.le_of_ble_eq_true rfl) ?_
  intro pg e s m below meth c C hr hlk hO hS ls hl
  have hl : lv_has ls 4 [(0, .ref h), (1, .int x), (2, .int t), (3, .int w)] := hl
  refine lv_aload_n C.1 C.2.1 dX1_inject_0 rfl (lv_at hl 0 rfl) ?_
  refine lv_iload_n C.1 C.2.1 dX1_inject_1 rfl (lv_at hl 1 rfl) ?_
  refine om_ci (As := [.int x]) (rest := []) C (mm_bad l D cI cZ h ad σ x) (cwV 1 C.2.2.2.2.1 (lw_V q246 q248 qs14 q24 q249) rfl rfl rfl (by decide +kernel) ⟨Nat.le_of_ble_eq_true rfl, Nat.le_of_ble_eq_true rfl⟩) hO hS rfl rfl hl.1 (Nat.le_of_ble_eq_true rfl) dX1_inject_2 ⟨Nat.zero_le _, Nat.zero_le _⟩ (fun H locs hO hS => ?_)
  refine lv_if_eq (tgt := 10) C.1 C.2.1 dX1_inject_5 (by decide) (fun c5 => ?_) (fun c5 => ?_)
  · refine lv_iload_n C.1 C.2.1 dX1_inject_10 rfl (lv_at hl 2 rfl) ?_
    refine lv_if_lt (tgt := 20) C.1 C.2.1 dX1_inject_11 (by decide) (fun c11 => ?_) (fun c11 => ?_)
    · refine lv_bipush (v := -2) C.1 C.2.1 dX1_inject_20 (by decide) ?_
      exact om_ri C hO hS (by rw [om_inject, if_neg (fun q => by rw [os_bit_f c5] at q; cases q), if_pos (Or.inl c11)]) (by rw [om_inject, if_neg (fun q => by rw [os_bit_f c5] at q; cases q), if_pos (Or.inl c11)]) hr hlk dX1_inject_22
    · refine lv_iload_n C.1 C.2.1 dX1_inject_14 rfl (lv_at hl 2 rfl) ?_
      refine lv_bipush (v := 99) C.1 C.2.1 dX1_inject_15 (by decide) ?_
      refine lv_icmp_le (tgt := 23) C.1 C.2.1 dX1_inject_17 (by decide) (fun c17 => ?_) (fun c17 => ?_)
      · have c17 := Int32.not_lt.mpr c17
        refine lv_iload_n C.1 C.2.1 dX1_inject_23 rfl (lv_at hl 2 rfl) ?_
        refine om_g4 C hO (lv_at hl 0 rfl) dX1_inject_24 dX1_inject_25 ?_
        refine lv_icmp_gt (tgt := 34) C.1 C.2.1 dX1_inject_28 (by decide) (fun c28 => ?_) (fun c28 => ?_)
        · refine om_g3 C hO (lv_at hl 0 rfl) dX1_inject_34 dX1_inject_35 ?_
          refine lv_bipush (v := 24) C.1 C.2.1 dX1_inject_38 (by decide) ?_
          refine lv_icmp_ne (tgt := 46) C.1 C.2.1 dX1_inject_40 (by decide) (fun c40 => ?_) (fun c40 => ?_)
          · refine lv_aload_n C.1 C.2.1 dX1_inject_46 rfl (lv_at hl 0 rfl) ?_
            refine om_g3 C hO (lv_at hl 0 rfl) dX1_inject_47 dX1_inject_48 ?_
            refine om_p5 C hO hS dX1_inject_51 (fun H locs hO hS => ?_)
            refine lv_aload_n C.1 C.2.1 dX1_inject_54 rfl (lv_at hl 0 rfl) ?_
            refine lv_iload_n C.1 C.2.1 dX1_inject_55 rfl (lv_at hl 1 rfl) ?_
            refine lv_iload_n C.1 C.2.1 dX1_inject_56 rfl (lv_at hl 2 rfl) ?_
            refine lv_iload_n C.1 C.2.1 dX1_inject_57 rfl (lv_at hl 3 rfl) ?_
            refine lv_bipush (v := 15) C.1 C.2.1 dX1_inject_58 (by decide) ?_
            refine lv_iand C.1 C.2.1 dX1_inject_60 ?_
            refine lv_iload_n C.1 C.2.1 dX1_inject_61 rfl (lv_at hl 3 rfl) ?_
            refine lv_iconst (v := 4) C.1 C.2.1 dX1_inject_62 (by decide) ?_
            refine lv_ishr C.1 C.2.1 dX1_inject_63 ?_
            refine lv_iconst (v := 3) C.1 C.2.1 dX1_inject_64 (by decide) ?_
            refine lv_iand C.1 C.2.1 dX1_inject_65 ?_
            refine om_cv (As := [.int x, .int t, .int (w &&& 15), .int ((w >>> ((4 : Int32) &&& 31)) &&& 3)]) (rest := []) C (mm_put l D cI cZ h ad (os_set σ 5 0 (σ 3 0)) x t (w &&& 15) ((w >>> ((4 : Int32) &&& 31)) &&& 3) hi0) (cwV 4 C.2.2.2.2.1 (lw_V q254 q256 qs15 q24 q257) rfl rfl rfl (by decide +kernel) ⟨Nat.le_of_ble_eq_true rfl, Nat.le_of_ble_eq_true rfl⟩) hO hS rfl rfl hl.1 (Nat.le_of_ble_eq_true rfl) dX1_inject_66 ⟨Nat.zero_le _, Nat.zero_le _⟩ (fun H locs hO hS => ?_)
            have hO : om_P D cI cZ h ad (om_inj1 σ x t w) H := hO
            refine lv_aload_n C.1 C.2.1 dX1_inject_69 rfl (lv_at hl 0 rfl) ?_
            refine om_g3 C hO (lv_at hl 0 rfl) dX1_inject_70 dX1_inject_71 ?_
            refine lv_iconst (v := 1) C.1 C.2.1 dX1_inject_74 (by decide) ?_
            refine lv_iadd C.1 C.2.1 dX1_inject_75 ?_
            refine om_p3 C hO hS dX1_inject_76 (fun H locs hO hS => ?_)
            have hO : om_P D cI cZ h ad (om_inj2 σ x t w) H := hO
            refine om_g3 C hO (lv_at hl 0 rfl) dX1_inject_79 dX1_inject_80 ?_
            exact om_ri C hO hS (by rw [om_inject, if_neg (fun q => by rw [os_bit_f c5] at q; cases q), if_neg (fun q => q.elim c11 c17), if_neg (Int32.not_le.mpr c28), if_neg c40]) (by rw [om_inject, if_neg (fun q => by rw [os_bit_f c5] at q; cases q), if_neg (fun q => q.elim c11 c17), if_neg (Int32.not_le.mpr c28), if_neg c40]) hr hlk dX1_inject_83
          · refine lv_bipush (v := -3) C.1 C.2.1 dX1_inject_43 (by decide) ?_
            exact om_ri C hO hS (by rw [om_inject, if_neg (fun q => by rw [os_bit_f c5] at q; cases q), if_neg (fun q => q.elim c11 c17), if_neg (Int32.not_le.mpr c28), if_pos c40]) (by rw [om_inject, if_neg (fun q => by rw [os_bit_f c5] at q; cases q), if_neg (fun q => q.elim c11 c17), if_neg (Int32.not_le.mpr c28), if_pos c40]) hr hlk dX1_inject_45
        · refine lv_bipush (v := -4) C.1 C.2.1 dX1_inject_31 (by decide) ?_
          exact om_ri C hO hS (by rw [om_inject, if_neg (fun q => by rw [os_bit_f c5] at q; cases q), if_neg (fun q => q.elim c11 c17), if_pos (Int32.not_lt.mp c28)]) (by rw [om_inject, if_neg (fun q => by rw [os_bit_f c5] at q; cases q), if_neg (fun q => q.elim c11 c17), if_pos (Int32.not_lt.mp c28)]) hr hlk dX1_inject_33
      · have c17 := Int32.not_le.mp c17
        refine lv_bipush (v := -2) C.1 C.2.1 dX1_inject_20 (by decide) ?_
        exact om_ri C hO hS (by rw [om_inject, if_neg (fun q => by rw [os_bit_f c5] at q; cases q), if_pos (Or.inr c17)]) (by rw [om_inject, if_neg (fun q => by rw [os_bit_f c5] at q; cases q), if_pos (Or.inr c17)]) hr hlk dX1_inject_22
  · refine lv_iconst (v := -1) C.1 C.2.1 dX1_inject_8 (by decide) ?_
    exact om_ri C hO hS (by rw [om_inject, if_pos (os_bit_t c5)]) (by rw [om_inject, if_pos (os_bit_t c5)]) hr hlk dX1_inject_9
set_option maxHeartbeats 4000000 in
theorem mm_work (l : Launch) (D : va_G) (cI cZ : ClassId) (h : Nat) (ad : Nat → Nat) (σ : os_St) (x y : Int32) : os_MI l yX1_work cX1_work 3 .int (os_rm 1 21) (om_A h ad) [.ref h, .int x, .int y] (om_W D cI cZ h ad σ) (om_W D cI cZ h ad σ) (om_work σ x) := by
  refine om_ei (by decide) rfl (Nat.le_of_ble_eq_true rfl) ?_
  intro pg e s m below meth c C hr hlk hO hS ls hl
  have hl : lv_has ls 3 [(0, .ref h), (1, .int x), (2, .int y)] := hl
  refine lv_aload_n C.1 C.2.1 dX1_work_0 rfl (lv_at hl 0 rfl) ?_
  refine lv_iload_n C.1 C.2.1 dX1_work_1 rfl (lv_at hl 1 rfl) ?_
  refine om_ci (As := [.int x]) (rest := []) C (mm_bad l D cI cZ h ad σ x) (cwV 1 C.2.2.2.2.1 (lw_V q246 q248 qs14 q24 q249) rfl rfl rfl (by decide +kernel) ⟨Nat.le_of_ble_eq_true rfl, Nat.le_of_ble_eq_true rfl⟩) hO hS rfl rfl hl.1 (Nat.le_of_ble_eq_true rfl) dX1_work_2 ⟨Nat.zero_le _, Nat.zero_le _⟩ (fun H locs hO hS => ?_)
  refine lv_if_eq (tgt := 12) C.1 C.2.1 dX1_work_5 (by decide) (fun c5 => ?_) (fun c5 => ?_)
  · refine lv_iconst (v := 0) C.1 C.2.1 dX1_work_12 (by decide) ?_
    exact om_ri C hO hS (by rw [om_work, if_neg (fun q => by rw [os_bit_f c5] at q; cases q)]) rfl hr hlk dX1_work_13
  · refine lv_iconst (v := -1) C.1 C.2.1 dX1_work_8 (by decide) ?_
    refine lv_goto (tgt := 13) C.1 C.2.1 dX1_work_9 (by decide) ?_
    exact om_ri C hO hS (by rw [om_work, if_pos (os_bit_t c5)]) rfl hr hlk dX1_work_13
set_option maxHeartbeats 4000000 in
theorem mm_commit (l : Launch) (D : va_G) (cI cZ : ClassId) (h : Nat) (ad : Nat → Nat) (σ : os_St) (t : Int32) (hbd : om_bd (om_sim0 (os_set σ 4 0 t))) : os_MI l yX1_commit cX1_commit 2 .int (os_rm 3 69) (om_A h ad) [.ref h, .int t] (om_W D cI cZ h ad σ) (om_W D cI cZ h ad ((om_commit σ t).2)) ((om_commit σ t).1) := by
  refine om_ei (by decide) rfl (Nat.le_of_ble_eq_true rfl) ?_
  intro pg e s m below meth c C hr hlk hO hS ls hl
  have hl : lv_has ls 2 [(0, .ref h), (1, .int t)] := hl
  refine lv_iload_n C.1 C.2.1 dX1_commit_0 rfl (lv_at hl 1 rfl) ?_
  refine lv_if_lt (tgt := 11) C.1 C.2.1 dX1_commit_1 (by decide) (fun c1 => ?_) (fun c1 => ?_)
  · refine lv_bipush (v := -2) C.1 C.2.1 dX1_commit_11 (by decide) ?_
    exact om_ri C hO hS (by rw [om_commit, if_pos (Or.inl c1)]) (by rw [om_commit, if_pos (Or.inl c1)]) hr hlk dX1_commit_13
  · refine lv_iload_n C.1 C.2.1 dX1_commit_4 rfl (lv_at hl 1 rfl) ?_
    refine lv_sipush (v := 200) C.1 C.2.1 dX1_commit_5 (by decide) ?_
    refine lv_icmp_le (tgt := 14) C.1 C.2.1 dX1_commit_8 (by decide) (fun c8 => ?_) (fun c8 => ?_)
    · have c8 := Int32.not_lt.mpr c8
      refine lv_iload_n C.1 C.2.1 dX1_commit_14 rfl (lv_at hl 1 rfl) ?_
      refine om_g4 C hO (lv_at hl 0 rfl) dX1_commit_15 dX1_commit_16 ?_
      refine lv_icmp_ge (tgt := 25) C.1 C.2.1 dX1_commit_19 (by decide) (fun c19 => ?_) (fun c19 => ?_)
      · have c19 := Int32.not_lt.mpr c19
        refine lv_aload_n C.1 C.2.1 dX1_commit_25 rfl (lv_at hl 0 rfl) ?_
        refine lv_iload_n C.1 C.2.1 dX1_commit_26 rfl (lv_at hl 1 rfl) ?_
        refine om_p4 C hO hS dX1_commit_27 (fun H locs hO hS => ?_)
        refine lv_aload_n C.1 C.2.1 dX1_commit_30 rfl (lv_at hl 0 rfl) ?_
        refine lv_iload_n C.1 C.2.1 dX1_commit_31 rfl (lv_at hl 1 rfl) ?_
        refine om_cv (As := [.int t]) (rest := []) C (mm_sim l D cI cZ h ad (os_set σ 4 0 t) t hbd) (cwV 1 C.2.2.2.2.1 (lw_V q266 q268 qs16 q24 q269) rfl rfl rfl (by decide +kernel) ⟨Nat.le_of_ble_eq_true rfl, Nat.le_of_ble_eq_true rfl⟩) hO hS rfl rfl hl.1 (Nat.le_of_ble_eq_true rfl) dX1_commit_32 ⟨Nat.zero_le _, Nat.zero_le _⟩ (fun H locs hO hS => ?_)
        refine lv_aload_n C.1 C.2.1 dX1_commit_35 rfl (lv_at hl 0 rfl) ?_
        refine om_ci (As := []) (rest := []) C (mm_all l D cI cZ h ad (om_sim (os_set σ 4 0 t) t)) (cwV 0 C.2.2.2.2.1 (lw_V q282 q284 qs20 q24 q285) rfl rfl rfl (by decide +kernel) ⟨Nat.le_of_ble_eq_true rfl, Nat.le_of_ble_eq_true rfl⟩) hO hS rfl rfl hl.1 (Nat.le_of_ble_eq_true rfl) dX1_commit_36 ⟨Nat.zero_le _, Nat.zero_le _⟩ (fun H locs hO hS => ?_)
        exact om_ri C hO hS (by rw [om_commit, if_neg (fun q => q.elim c1 c8), if_neg c19]) (by rw [om_commit, if_neg (fun q => q.elim c1 c8), if_neg c19]) hr hlk dX1_commit_39
      · have c19 := Int32.not_le.mp c19
        refine lv_bipush (v := -4) C.1 C.2.1 dX1_commit_22 (by decide) ?_
        exact om_ri C hO hS (by rw [om_commit, if_neg (fun q => q.elim c1 c8), if_pos c19]) (by rw [om_commit, if_neg (fun q => q.elim c1 c8), if_pos c19]) hr hlk dX1_commit_24
    · have c8 := Int32.not_le.mp c8
      refine lv_bipush (v := -2) C.1 C.2.1 dX1_commit_11 (by decide) ?_
      exact om_ri C hO hS (by rw [om_commit, if_pos (Or.inr c8)]) (by rw [om_commit, if_pos (Or.inr c8)]) hr hlk dX1_commit_13
set_option maxHeartbeats 4000000 in
theorem mm_clear (l : Launch) (D : va_G) (cI cZ : ClassId) (h : Nat) (ad : Nat → Nat) (σ : os_St) : os_MV l yX1_clear cX1_clear 1 (os_rm 0 0) (om_A h ad) [.ref h] (om_W D cI cZ h ad σ) (om_W D cI cZ h ad (om_clear σ)) := by
  refine om_ev (by decide) rfl (Nat.le_of_ble_eq_true rfl) ?_
  intro pg e s m below meth c C hr hlk hO hS ls hl
  have hl : lv_has ls 1 [(0, .ref h)] := hl
  refine lv_aload_n C.1 C.2.1 dX1_clear_0 rfl (lv_at hl 0 rfl) ?_
  refine lv_iconst (v := 0) C.1 C.2.1 dX1_clear_1 (by decide) ?_
  refine om_p3 C hO hS dX1_clear_2 (fun H locs hO hS => ?_)
  refine lv_aload_n C.1 C.2.1 dX1_clear_5 rfl (lv_at hl 0 rfl) ?_
  refine lv_iconst (v := 0) C.1 C.2.1 dX1_clear_6 (by decide) ?_
  refine om_p5 C hO hS dX1_clear_7 (fun H locs hO hS => ?_)
  refine lv_aload_n C.1 C.2.1 dX1_clear_10 rfl (lv_at hl 0 rfl) ?_
  refine lv_iconst (v := -1) C.1 C.2.1 dX1_clear_11 (by decide) ?_
  refine om_p4 C hO hS dX1_clear_12 (fun H locs hO hS => ?_)
  exact om_rv C hO hS rfl hr hlk dX1_clear_15
set_option maxHeartbeats 4000000 in
theorem mm_state (l : Launch) (D : va_G) (cI cZ : ClassId) (h : Nat) (ad : Nat → Nat) (σ : os_St) (x t : Int32) (hbd : om_bd (om_sim0 σ)) : os_MI l yX1_state cX1_state 3 .int (os_rm 3 69) (om_A h ad) [.ref h, .int x, .int t] (om_W D cI cZ h ad σ) (om_W D cI cZ h ad ((om_state σ x t).2)) ((om_state σ x t).1) := by
  refine om_ei (by decide) rfl (Nat.le_of_ble_eq_true rfl) ?_
  intro pg e s m below meth c C hr hlk hO hS ls hl
  have hl : lv_has ls 3 [(0, .ref h), (1, .int x), (2, .int t)] := hl
  refine lv_aload_n C.1 C.2.1 dX1_state_0 rfl (lv_at hl 0 rfl) ?_
  refine lv_iload_n C.1 C.2.1 dX1_state_1 rfl (lv_at hl 1 rfl) ?_
  refine om_ci (As := [.int x]) (rest := []) C (mm_bad l D cI cZ h ad σ x) (cwV 1 C.2.2.2.2.1 (lw_V q246 q248 qs14 q24 q249) rfl rfl rfl (by decide +kernel) ⟨Nat.le_of_ble_eq_true rfl, Nat.le_of_ble_eq_true rfl⟩) hO hS rfl rfl hl.1 (Nat.le_of_ble_eq_true rfl) dX1_state_2 ⟨Nat.zero_le _, Nat.zero_le _⟩ (fun H locs hO hS => ?_)
  refine lv_if_ne (tgt := 16) C.1 C.2.1 dX1_state_5 (by decide) (fun c5 => ?_) (fun c5 => ?_)
  · refine lv_iconst (v := 0) C.1 C.2.1 dX1_state_16 (by decide) ?_
    exact om_ri C hO hS (by rw [om_state, if_pos (Or.inl (os_bit_t c5))]) (by rw [om_state, if_pos (Or.inl (os_bit_t c5))]) hr hlk dX1_state_17
  · refine lv_aload_n C.1 C.2.1 dX1_state_8 rfl (lv_at hl 0 rfl) ?_
    refine lv_iload_n C.1 C.2.1 dX1_state_9 rfl (lv_at hl 2 rfl) ?_
    refine om_ci (As := [.int t]) (rest := []) C (mm_ask l D cI cZ h ad σ t) (cwV 1 C.2.2.2.2.1 (lw_V q294 q296 qs21 q24 q297) rfl rfl rfl (by decide +kernel) ⟨Nat.le_of_ble_eq_true rfl, Nat.le_of_ble_eq_true rfl⟩) hO hS rfl rfl hl.1 (Nat.le_of_ble_eq_true rfl) dX1_state_10 ⟨Nat.zero_le _, Nat.zero_le _⟩ (fun H locs hO hS => ?_)
    refine lv_if_ne (tgt := 18) C.1 C.2.1 dX1_state_13 (by decide) (fun c13 => ?_) (fun c13 => ?_)
    · have hx : vp_in x 4 := om_bad_in (os_bit_f c5)
      refine lv_aload_n C.1 C.2.1 dX1_state_18 rfl (lv_at hl 0 rfl) ?_
      refine lv_iload_n C.1 C.2.1 dX1_state_19 rfl (lv_at hl 2 rfl) ?_
      refine om_cv (As := [.int t]) (rest := []) C (mm_sim l D cI cZ h ad σ t hbd) (cwV 1 C.2.2.2.2.1 (lw_V q266 q268 qs16 q24 q269) rfl rfl rfl (by decide +kernel) ⟨Nat.le_of_ble_eq_true rfl, Nat.le_of_ble_eq_true rfl⟩) hO hS rfl rfl hl.1 (Nat.le_of_ble_eq_true rfl) dX1_state_20 ⟨Nat.zero_le _, Nat.zero_le _⟩ (fun H locs hO hS => ?_)
      refine om_g11 C hO (lv_at hl 0 rfl) dX1_state_23 dX1_state_24 ?_
      refine lv_iload_n C.1 C.2.1 dX1_state_27 rfl (lv_at hl 1 rfl) ?_
      refine om_l11 (j := os_ix x) C hO rfl hx dX1_state_28 ?_
      exact om_ri C hO hS (by rw [om_state, if_neg (fun q => q.elim (fun q => by rw [os_bit_f c5] at q; cases q) (fun q => by rw [os_bit_t c13] at q; cases q))]) (by rw [om_state, if_neg (fun q => q.elim (fun q => by rw [os_bit_f c5] at q; cases q) (fun q => by rw [os_bit_t c13] at q; cases q))]) hr hlk dX1_state_29
    · refine lv_iconst (v := 0) C.1 C.2.1 dX1_state_16 (by decide) ?_
      exact om_ri C hO hS (by rw [om_state, if_pos (Or.inr (os_bit_f c13))]) (by rw [om_state, if_pos (Or.inr (os_bit_f c13))]) hr hlk dX1_state_17
set_option maxHeartbeats 4000000 in
theorem mm_handled (l : Launch) (D : va_G) (cI cZ : ClassId) (h : Nat) (ad : Nat → Nat) (σ : os_St) (x t : Int32) (hbd : om_bd (om_sim0 σ)) : os_MI l yX1_handled cX1_handled 3 .int (os_rm 3 69) (om_A h ad) [.ref h, .int x, .int t] (om_W D cI cZ h ad σ) (om_W D cI cZ h ad ((om_handled σ x t).2)) ((om_handled σ x t).1) := by
  refine om_ei (by decide) rfl (Nat.le_of_ble_eq_true rfl) ?_
  intro pg e s m below meth c C hr hlk hO hS ls hl
  have hl : lv_has ls 3 [(0, .ref h), (1, .int x), (2, .int t)] := hl
  refine lv_aload_n C.1 C.2.1 dX1_handled_0 rfl (lv_at hl 0 rfl) ?_
  refine lv_iload_n C.1 C.2.1 dX1_handled_1 rfl (lv_at hl 1 rfl) ?_
  refine om_ci (As := [.int x]) (rest := []) C (mm_bad l D cI cZ h ad σ x) (cwV 1 C.2.2.2.2.1 (lw_V q246 q248 qs14 q24 q249) rfl rfl rfl (by decide +kernel) ⟨Nat.le_of_ble_eq_true rfl, Nat.le_of_ble_eq_true rfl⟩) hO hS rfl rfl hl.1 (Nat.le_of_ble_eq_true rfl) dX1_handled_2 ⟨Nat.zero_le _, Nat.zero_le _⟩ (fun H locs hO hS => ?_)
  refine lv_if_eq (tgt := 10) C.1 C.2.1 dX1_handled_5 (by decide) (fun c5 => ?_) (fun c5 => ?_)
  · refine lv_aload_n C.1 C.2.1 dX1_handled_10 rfl (lv_at hl 0 rfl) ?_
    refine lv_iload_n C.1 C.2.1 dX1_handled_11 rfl (lv_at hl 2 rfl) ?_
    refine om_ci (As := [.int t]) (rest := []) C (mm_ask l D cI cZ h ad σ t) (cwV 1 C.2.2.2.2.1 (lw_V q294 q296 qs21 q24 q297) rfl rfl rfl (by decide +kernel) ⟨Nat.le_of_ble_eq_true rfl, Nat.le_of_ble_eq_true rfl⟩) hO hS rfl rfl hl.1 (Nat.le_of_ble_eq_true rfl) dX1_handled_12 ⟨Nat.zero_le _, Nat.zero_le _⟩ (fun H locs hO hS => ?_)
    refine lv_if_ne (tgt := 21) C.1 C.2.1 dX1_handled_15 (by decide) (fun c15 => ?_) (fun c15 => ?_)
    · have hx : vp_in x 4 := om_bad_in (os_bit_f c5)
      refine lv_aload_n C.1 C.2.1 dX1_handled_21 rfl (lv_at hl 0 rfl) ?_
      refine lv_iload_n C.1 C.2.1 dX1_handled_22 rfl (lv_at hl 2 rfl) ?_
      refine om_cv (As := [.int t]) (rest := []) C (mm_sim l D cI cZ h ad σ t hbd) (cwV 1 C.2.2.2.2.1 (lw_V q266 q268 qs16 q24 q269) rfl rfl rfl (by decide +kernel) ⟨Nat.le_of_ble_eq_true rfl, Nat.le_of_ble_eq_true rfl⟩) hO hS rfl rfl hl.1 (Nat.le_of_ble_eq_true rfl) dX1_handled_23 ⟨Nat.zero_le _, Nat.zero_le _⟩ (fun H locs hO hS => ?_)
      refine om_g12 C hO (lv_at hl 0 rfl) dX1_handled_26 dX1_handled_27 ?_
      refine lv_iload_n C.1 C.2.1 dX1_handled_30 rfl (lv_at hl 1 rfl) ?_
      refine om_l12 (j := os_ix x) C hO rfl hx dX1_handled_31 ?_
      exact om_ri C hO hS (by rw [om_handled, if_neg (fun q => by rw [os_bit_f c5] at q; cases q), if_neg (fun q => by rw [os_bit_t c15] at q; cases q)]) (by rw [om_handled, if_neg (fun q => by rw [os_bit_f c5] at q; cases q), if_neg (fun q => by rw [os_bit_t c15] at q; cases q)]) hr hlk dX1_handled_32
    · refine lv_bipush (v := -4) C.1 C.2.1 dX1_handled_18 (by decide) ?_
      exact om_ri C hO hS (by rw [om_handled, if_neg (fun q => by rw [os_bit_f c5] at q; cases q), if_pos (os_bit_f c15)]) (by rw [om_handled, if_neg (fun q => by rw [os_bit_f c5] at q; cases q), if_pos (os_bit_f c15)]) hr hlk dX1_handled_20
  · refine lv_iconst (v := -1) C.1 C.2.1 dX1_handled_8 (by decide) ?_
    exact om_ri C hO hS (by rw [om_handled, if_pos (os_bit_t c5)]) (by rw [om_handled, if_pos (os_bit_t c5)]) hr hlk dX1_handled_9
set_option maxHeartbeats 4000000 in
theorem mm_lastTime (l : Launch) (D : va_G) (cI cZ : ClassId) (h : Nat) (ad : Nat → Nat) (σ : os_St) (hbd : om_bd (om_sim0 σ)) : os_MI l yX1_lastTime cX1_lastTime 1 .int (os_rm 3 69) (om_A h ad) [.ref h] (om_W D cI cZ h ad σ) (om_W D cI cZ h ad ((om_lastTime σ).2)) ((om_lastTime σ).1) := by
  refine om_ei (by decide) rfl (Nat.le_of_ble_eq_true rfl) ?_
  intro pg e s m below meth c C hr hlk hO hS ls hl
  have hl : lv_has ls 1 [(0, .ref h)] := hl
  refine lv_aload_n C.1 C.2.1 dX1_lastTime_0 rfl (lv_at hl 0 rfl) ?_
  refine lv_sipush (v := 200) C.1 C.2.1 dX1_lastTime_1 (by decide) ?_
  refine om_cv (As := [.int 200]) (rest := []) C (mm_sim l D cI cZ h ad σ 200 hbd) (cwV 1 C.2.2.2.2.1 (lw_V q266 q268 qs16 q24 q269) rfl rfl rfl (by decide +kernel) ⟨Nat.le_of_ble_eq_true rfl, Nat.le_of_ble_eq_true rfl⟩) hO hS rfl rfl hl.1 (Nat.le_of_ble_eq_true rfl) dX1_lastTime_4 ⟨Nat.zero_le _, Nat.zero_le _⟩ (fun H locs hO hS => ?_)
  refine om_g13 C hO (lv_at hl 0 rfl) dX1_lastTime_7 dX1_lastTime_8 ?_
  exact om_ri C hO hS (rfl) rfl hr hlk dX1_lastTime_11
set_option maxHeartbeats 4000000 in
theorem mm_events (l : Launch) (D : va_G) (cI cZ : ClassId) (h : Nat) (ad : Nat → Nat) (σ : os_St) (hbd : om_bd (om_sim0 σ)) : os_MI l yX1_events cX1_events 1 .int (os_rm 3 69) (om_A h ad) [.ref h] (om_W D cI cZ h ad σ) (om_W D cI cZ h ad ((om_events σ).2)) ((om_events σ).1) := by
  refine om_ei (by decide) rfl (Nat.le_of_ble_eq_true rfl) ?_
  intro pg e s m below meth c C hr hlk hO hS ls hl
  have hl : lv_has ls 1 [(0, .ref h)] := hl
  refine lv_aload_n C.1 C.2.1 dX1_events_0 rfl (lv_at hl 0 rfl) ?_
  refine lv_sipush (v := 200) C.1 C.2.1 dX1_events_1 (by decide) ?_
  refine om_cv (As := [.int 200]) (rest := []) C (mm_sim l D cI cZ h ad σ 200 hbd) (cwV 1 C.2.2.2.2.1 (lw_V q266 q268 qs16 q24 q269) rfl rfl rfl (by decide +kernel) ⟨Nat.le_of_ble_eq_true rfl, Nat.le_of_ble_eq_true rfl⟩) hO hS rfl rfl hl.1 (Nat.le_of_ble_eq_true rfl) dX1_events_4 ⟨Nat.zero_le _, Nat.zero_le _⟩ (fun H locs hO hS => ?_)
  refine lv_aload_n C.1 C.2.1 dX1_events_7 rfl (lv_at hl 0 rfl) ?_
  refine om_ci (As := []) (rest := []) C (mm_all l D cI cZ h ad (om_sim σ 200)) (cwV 0 C.2.2.2.2.1 (lw_V q282 q284 qs20 q24 q285) rfl rfl rfl (by decide +kernel) ⟨Nat.le_of_ble_eq_true rfl, Nat.le_of_ble_eq_true rfl⟩) hO hS rfl rfl hl.1 (Nat.le_of_ble_eq_true rfl) dX1_events_8 ⟨Nat.zero_le _, Nat.zero_le _⟩ (fun H locs hO hS => ?_)
  exact om_ri C hO hS (rfl) rfl hr hlk dX1_events_11
set_option maxHeartbeats 4000000 in
theorem mm_horizon (l : Launch) (D : va_G) (cI cZ : ClassId) (h : Nat) (ad : Nat → Nat) (σ : os_St) : os_MI l yX1_horizon cX1_horizon 1 .int (os_rm 0 0) (om_A h ad) [.ref h] (om_W D cI cZ h ad σ) (om_W D cI cZ h ad σ) (σ 4 0) := by
  refine om_ei (by decide) rfl (Nat.le_of_ble_eq_true rfl) ?_
  intro pg e s m below meth c C hr hlk hO hS ls hl
  have hl : lv_has ls 1 [(0, .ref h)] := hl
  refine om_g4 C hO (lv_at hl 0 rfl) dX1_horizon_0 dX1_horizon_1 ?_
  exact om_ri C hO hS (rfl) rfl hr hlk dX1_horizon_4
end
section
/-! the constructors (printed by gen/init.py) -/
set_option maxRecDepth 100000
theorem os_arr1 {own : String} {p : Program} {s : State} {m : MethodId} {args : Array Value} {c : Code} {cc : ByteArray} {nL : Nat} {D : va_G} {cI cZ cA : ClassId} (C : os_cx own p s m args c cc nL D cI cZ) (hK : va_K D os_cls (os_tys cI cZ ++ [(cA, .int)]) s) : cA = cI := by
  have h1 : s.vm.findClass ("[" ++ FieldType.int.toString) = some cI := (C.2.2.2.2.2.2 0 (cI, .int) rfl).2
  have h2 : s.vm.findClass ("[" ++ FieldType.int.toString) = some cA := (hK.2 2 (cA, .int) rfl).2
  exact Option.some.inj (h2.symm.trans h1)
theorem os_arr2 {own : String} {p : Program} {s : State} {m : MethodId} {args : Array Value} {c : Code} {cc : ByteArray} {nL : Nat} {D : va_G} {cI cZ cA : ClassId} (C : os_cx own p s m args c cc nL D cI cZ) (hK : va_K D os_cls (os_tys cI cZ ++ [(cA, .boolean)]) s) : cA = cZ := by
  have h1 : s.vm.findClass ("[" ++ FieldType.boolean.toString) = some cZ := (C.2.2.2.2.2.2 1 (cZ, .boolean) rfl).2
  have h2 : s.vm.findClass ("[" ++ FieldType.boolean.toString) = some cA := (hK.2 2 (cA, .boolean) rfl).2
  exact Option.some.inj (h2.symm.trans h1)
section OIN
variable {p : Program} {l : Launch} {e : Env} {R : Room} {s : State} {m : MethodId} {args : Array Value} {below : List Frame} {meth : Method} {c : Code} {H : Heap} {locs : List Loc} {cells slots : Nat} {Q : State → Prop} {cc : ByteArray} {pc : Nat} {ls : Array Slot} {rest : List Value} {D : va_G} {cI cZ : ClassId} {h nL : Nat} {ad : Nat → Nat} {σ : os_St} {H0 : Heap} {own : String} {ws : va_W} {A : Nat → Prop}
theorem os_newI (C : os_cx own p s m args c cc nL D cI cZ) (hP : va_P D os_cls ws H) (hD : va_D A ws) (hS : va_S A H0 H locs) (hA : ∀ q, H0.size ≤ q → A q) {n : Int32} {N' : Nat} (hn : ¬ n < 0) (hN : n.toNatClampNeg = N') (hbytes : N' * componentBytes .int ≤ 536870912) (hcells : cells + 1 ≤ R.cells) (hslots : slots + N' ≤ R.slots) (d : decode cc pc = .ok (.newarray .int, 2))
    (kk : ∀ (q : Nat) (H1 : Heap), va_P D os_cls (ws ++ [(q, .inl (cI, N', .inl (fun _ => 0)))]) H1 → va_D A (ws ++ [(q, .inl (cI, N', .inl (fun _ => 0)))]) → va_S A H0 H1 locs → W p l e R s m args below meth c H1 locs (cells + 1) (slots + N') Q (F0 m (pc + 2) ls (.ref q :: rest))) : W p l e R s m args below meth c H locs cells slots Q (F0 m pc ls (.int n :: rest)) :=
  va_newa (atype := .int) (ty := .int) (a0 := (N', .inl (fun _ => 0))) C.1 C.2.1 (C.2.2.2.2.1 _ q95) rfl C.2.2.2.2.2 hP hD hS hA (fun cA => rfl) hn hN hbytes hcells hslots d (fun q cA H1 hK hP hD hS => by
    have e := os_arr1 C hK
    subst e
    exact kk q H1 hP hD hS)
theorem os_newZ (C : os_cx own p s m args c cc nL D cI cZ) (hP : va_P D os_cls ws H) (hD : va_D A ws) (hS : va_S A H0 H locs) (hA : ∀ q, H0.size ≤ q → A q) {n : Int32} {N' : Nat} (hn : ¬ n < 0) (hN : n.toNatClampNeg = N') (hbytes : N' * componentBytes .boolean ≤ 536870912) (hcells : cells + 1 ≤ R.cells) (hslots : slots + N' ≤ R.slots) (d : decode cc pc = .ok (.newarray .boolean, 2))
    (kk : ∀ (q : Nat) (H1 : Heap), va_P D os_cls (ws ++ [(q, .inl (cZ, N', .inl (fun _ => 0)))]) H1 → va_D A (ws ++ [(q, .inl (cZ, N', .inl (fun _ => 0)))]) → va_S A H0 H1 locs → W p l e R s m args below meth c H1 locs (cells + 1) (slots + N') Q (F0 m (pc + 2) ls (.ref q :: rest))) : W p l e R s m args below meth c H locs cells slots Q (F0 m pc ls (.int n :: rest)) :=
  va_newa (atype := .boolean) (ty := .boolean) (a0 := (N', .inl (fun _ => 0))) C.1 C.2.1 (C.2.2.2.2.1 _ q96) rfl C.2.2.2.2.2 hP hD hS hA (fun cA => rfl) hn hN hbytes hcells hslots d (fun q cA H1 hK hP hD hS => by
    have e := os_arr2 C hK
    subst e
    exact kk q H1 hP hD hS)

theorem ox_self {A : Nat → Prop} (h0 : va_D A (ox_w cI cZ h ad σ)) : va_D (ox_A h ad) (ox_w cI cZ h ad σ) := by
  refine ⟨h0.1, fun k q hk => ?_⟩
  have e : (ox_w cI cZ h ad σ).map Prod.fst = ox_L h ad := rfl
  show q.1 ∈ ox_L h ad
  rw [← e]
  exact List.mem_map.mpr ⟨q, List.mem_of_getElem? hk, rfl⟩
theorem ox_t1 (C : os_cx RX0 p s m args c cc nL D cI cZ) (hO : ox_P D cI cZ h ad σ H) (hA : ∀ q, ox_A h ad q → A q) (hS : va_S A H0 H locs) {i x : Int32} {j : Nat} (hj : i.toNatClampNeg = j) (hi : vp_in i 4) (d : decode cc pc = .ok (.iastore, 1)) (kk : ∀ (H1 : Heap) (locs1 : List Loc), ox_P D cI cZ h ad (os_set σ 1 j x) H1 → va_S A H0 H1 locs1 → W p l e R s m args below meth c H1 locs1 cells slots Q (F0 m (pc + 1) ls rest)) : W p l e R s m args below meth c H locs cells slots Q (F0 m pc ls (.int x :: .int i :: .ref (ad 1) :: rest)) := by
  subst hj
  exact va_iast C.1 C.2.1 C.2.2.2.2.2 hO.1 (hO.2.weaken (fun _ _ _ q => hA _ q)) hS 2 0 rfl rfl hi d (fun H1 locs1 h1 h2 h3 => kk H1 locs1 ⟨h1, ox_self (σ := os_set σ 1 i.toNatClampNeg x) h2⟩ h3)
theorem ox_t2 (C : os_cx RX0 p s m args c cc nL D cI cZ) (hO : ox_P D cI cZ h ad σ H) (hA : ∀ q, ox_A h ad q → A q) (hS : va_S A H0 H locs) {i x : Int32} {j : Nat} (hj : i.toNatClampNeg = j) (hi : vp_in i 4) (d : decode cc pc = .ok (.iastore, 1)) (kk : ∀ (H1 : Heap) (locs1 : List Loc), ox_P D cI cZ h ad (os_set σ 2 j x) H1 → va_S A H0 H1 locs1 → W p l e R s m args below meth c H1 locs1 cells slots Q (F0 m (pc + 1) ls rest)) : W p l e R s m args below meth c H locs cells slots Q (F0 m pc ls (.int x :: .int i :: .ref (ad 2) :: rest)) := by
  subst hj
  exact va_iast C.1 C.2.1 C.2.2.2.2.2 hO.1 (hO.2.weaken (fun _ _ _ q => hA _ q)) hS 3 0 rfl rfl hi d (fun H1 locs1 h1 h2 h3 => kk H1 locs1 ⟨h1, ox_self (σ := os_set σ 2 i.toNatClampNeg x) h2⟩ h3)
theorem om_self {A : Nat → Prop} (h0 : va_D A (om_w cI cZ h ad σ)) : va_D (om_A h ad) (om_w cI cZ h ad σ) := by
  refine ⟨h0.1, fun k q hk => ?_⟩
  have e : (om_w cI cZ h ad σ).map Prod.fst = om_L h ad := rfl
  show q.1 ∈ om_L h ad
  rw [← e]
  exact List.mem_map.mpr ⟨q, List.mem_of_getElem? hk, rfl⟩
theorem om_t1 (C : os_cx RX1 p s m args c cc nL D cI cZ) (hO : om_P D cI cZ h ad σ H) (hA : ∀ q, om_A h ad q → A q) (hS : va_S A H0 H locs) {i x : Int32} {j : Nat} (hj : i.toNatClampNeg = j) (hi : vp_in i 4) (d : decode cc pc = .ok (.iastore, 1)) (kk : ∀ (H1 : Heap) (locs1 : List Loc), om_P D cI cZ h ad (os_set σ 1 j x) H1 → va_S A H0 H1 locs1 → W p l e R s m args below meth c H1 locs1 cells slots Q (F0 m (pc + 1) ls rest)) : W p l e R s m args below meth c H locs cells slots Q (F0 m pc ls (.int x :: .int i :: .ref (ad 1) :: rest)) := by
  subst hj
  exact va_iast C.1 C.2.1 C.2.2.2.2.2 hO.1 (hO.2.weaken (fun _ _ _ q => hA _ q)) hS 2 0 rfl rfl hi d (fun H1 locs1 h1 h2 h3 => kk H1 locs1 ⟨h1, om_self (σ := os_set σ 1 i.toNatClampNeg x) h2⟩ h3)
theorem om_t2 (C : os_cx RX1 p s m args c cc nL D cI cZ) (hO : om_P D cI cZ h ad σ H) (hA : ∀ q, om_A h ad q → A q) (hS : va_S A H0 H locs) {i x : Int32} {j : Nat} (hj : i.toNatClampNeg = j) (hi : vp_in i 4) (d : decode cc pc = .ok (.iastore, 1)) (kk : ∀ (H1 : Heap) (locs1 : List Loc), om_P D cI cZ h ad (os_set σ 2 j x) H1 → va_S A H0 H1 locs1 → W p l e R s m args below meth c H1 locs1 cells slots Q (F0 m (pc + 1) ls rest)) : W p l e R s m args below meth c H locs cells slots Q (F0 m pc ls (.int x :: .int i :: .ref (ad 2) :: rest)) := by
  subst hj
  exact va_iast C.1 C.2.1 C.2.2.2.2.2 hO.1 (hO.2.weaken (fun _ _ _ q => hA _ q)) hS 3 0 rfl rfl hi d (fun H1 locs1 h1 h2 h3 => kk H1 locs1 ⟨h1, om_self (σ := os_set σ 2 i.toNatClampNeg x) h2⟩ h3)
theorem om_t4 (C : os_cx RX1 p s m args c cc nL D cI cZ) (hO : om_P D cI cZ h ad σ H) (hA : ∀ q, om_A h ad q → A q) (hS : va_S A H0 H locs) {x : Int32} (d : decode cc pc = .ok (.putfield 41, 3)) (kk : ∀ (H1 : Heap) (locs1 : List Loc), om_P D cI cZ h ad (os_set σ 4 0 x) H1 → va_S A H0 H1 locs1 → W p l e R s m args below meth c H1 locs1 cells slots Q (F0 m (pc + 3) ls rest)) : W p l e R s m args below meth c H locs cells slots Q (F0 m pc ls (.int x :: .ref h :: rest)) :=
  va_put (D := D) (ci := 1) (v := .int x) (ty := .int) (C := RX1) (T := TX1) (N := 14) C.1 C.2.1 C.2.2.2.2.1 in_X1 tyX1 tyX1_ok nmX1 C.2.2.2.1 C.2.2.2.2.2 hO.1 (hO.2.weaken (fun _ _ _ q => hA _ q)) hS 0 rfl rfl 4 (by decide) (C.2.2.2.2.1 _ q203) (fun _ h9 => h9) rfl (by decide +kernel) rfl rfl (Nat.le_of_ble_eq_true rfl) d (fun H1 locs1 h1 h2 h3 => kk H1 locs1 ⟨h1, om_self (σ := os_set σ 4 0 x) h2⟩ h3)
end OIN
abbrev ox_blank : List Value := [.null, .null, .null, .int 0, .int 0, .null, .null, .null, .null, .null, .null, .null, .null, .null, .null, .null, .int 0, .null, .int 0]
abbrev ox_rm : Room := { frames := 1, cells := 15, slots := 888, locals := 21 }
set_option maxHeartbeats 4000000 in
theorem mx_init (l : Launch) (D : va_G) (cI cZ : ClassId) (h sz : Nat) : Met l yX0_init (ws_ yX0_init cX0_init 2 none) ox_rm (va_Pc [.ref h] (fun U => U.heap.size = sz ∧ va_P D os_cls [(h, .inr (0, ox_blank))] U.heap ∧ va_K D os_cls (os_tys cI cZ) U)) (va_Qv (fun ad : Nat → Nat => ∀ q ∈ ox_L h ad, q = h ∨ sz ≤ q) (fun ad t => ox_W D cI cZ h ad os_start t) (fun q : Nat => q = h ∨ sz ≤ q)) 15 888 (fun q : Nat => q = h ∨ sz ≤ q) := by
  refine Met.ofW (cc := cX0_init) (maxL := 2) (ret := none) (by decide) rfl ?_
  intro pg e s m args below meth c s₁ B hml hv
  obtain ⟨rfl, hsz, hP, hK⟩ := hv
  subst hsz
  have hts := atoms_spec (ws := ws_ yX0_init cX0_init 2 none) B.pre
  have hts : ∀ w ∈ lw_all, w.before _ s = true := fun w h => hts w (List.mem_cons_of_mem _ h)
  have hown : s.vm.findClass RX0 = some m.cls := findClass_of_methodNamed B.named
  have hlk := B.notSynchronized
  have hin : meth.name = "<init>" := (name_of_methodNamed B.named B.method).1
  have hr := B.returns
  have C : os_cx RX0 pg s m ([.ref h] : List Value).toArray c cX0_init 2 D cI cZ := ⟨B.exec, B.bytes, hml, hown, hts, hK⟩
  have hA : ∀ q, s.heap.size ≤ q → (fun q : Nat => q = h ∨ s.heap.size ≤ q) q := fun q h => Or.inr h
  generalize hAe : (fun q : Nat => q = h ∨ s.heap.size ≤ q) = A at hA ⊢
  have hAh : A h := by rw [← hAe]; exact Or.inl rfl
  have hD : va_D A [(h, .inr (0, [.null, .null, .null, .int 0, .int 0, .null, .null, .null, .null, .null, .null, .null, .null, .null, .null, .null, .int 0, .null, .int 0]))] := ⟨fun i j p q hi hj _ => by
    have a := (List.getElem?_eq_some_iff.mp hi).1
    have b := (List.getElem?_eq_some_iff.mp hj).1
    simp only [List.length_cons, List.length_nil] at a b
    omega, fun k q hk => by
    have a := (List.getElem?_eq_some_iff.mp hk).1
    simp only [List.length_cons, List.length_nil] at a
    obtain rfl : k = 0 := by omega
    cases hk
    exact hAh⟩
  have hP : va_P D os_cls [(h, .inr (0, [.null, .null, .null, .int 0, .int 0, .null, .null, .null, .null, .null, .null, .null, .null, .null, .null, .null, .int 0, .null, .int 0]))] s.heap := hP
  have hS : va_S A s.heap s.heap [] := va_S.rf
  have hl := lv_entry ([.ref h]) (n := 2) (Nat.le_of_ble_eq_true rfl)
  rw [lg_entry_eq]
  generalize (lg_sl ([.ref h]) ++ List.replicate (2 - (lg_sl ([.ref h])).length) Slot.unset).toArray = ls at hl ⊢
  have hl : lv_has ls 2 [(0, .ref h)] := hl
  refine lv_aload_n C.1 C.2.1 dX0_init_0 rfl (lv_at hl 0 rfl) ?_
  refine W.objInit C.1 C.2.1 hown (hts _ q30) (hts _ q31) (hts _ q32) rfl (by rw [hml]; exact hl.1) rfl dX0_init_1 (Nat.le_of_ble_eq_true rfl) (Nat.le_of_ble_eq_true rfl) ?_
  refine W.eq (g2 := F0 m 4 ls []) rfl ?_
  refine lv_aload_n C.1 C.2.1 dX0_init_4 rfl (lv_at hl 0 rfl) ?_
  refine lv_iconst (v := 4) C.1 C.2.1 dX0_init_5 (by decide) ?_
  refine os_newI (N' := 4) C hP hD hS hA (by decide) (by decide) (by decide) (Nat.le_of_ble_eq_true rfl) (Nat.le_of_ble_eq_true rfl) dX0_init_6 (fun a0 H hP hD hS => ?_)
  refine W.widen (k := 1) (n := 4) (Nat.le_of_ble_eq_true rfl) (Nat.le_of_ble_eq_true rfl) ?_
  have hP : va_P D os_cls [(h, .inr (0, [.null, .null, .null, .int 0, .int 0, .null, .null, .null, .null, .null, .null, .null, .null, .null, .null, .null, .int 0, .null, .int 0])), (a0, .inl (cI, 4, .inl (fun _ => 0)))] H := hP
  have hD : va_D A [(h, .inr (0, [.null, .null, .null, .int 0, .int 0, .null, .null, .null, .null, .null, .null, .null, .null, .null, .null, .null, .int 0, .null, .int 0])), (a0, .inl (cI, 4, .inl (fun _ => 0)))] := hD
  refine va_putF (D := D) (ci := 0) (v := .ref a0) (ty := .array .int) (C := RX0) (T := TX0) (N := 19) C.1 C.2.1 hts in_X0 tyX0 tyX0_ok nmX0 hown hK hP hD hS 0 rfl rfl 0 (by decide) (hts _ q37) (fun _ h9 => h9) rfl hin rfl (by decide +kernel) rfl rfl (Nat.le_of_ble_eq_true rfl) dX0_init_8 (fun H locs hP hD hS => ?_)
  have hP : va_P D os_cls [(h, .inr (0, [.ref a0, .null, .null, .int 0, .int 0, .null, .null, .null, .null, .null, .null, .null, .null, .null, .null, .null, .int 0, .null, .int 0])), (a0, .inl (cI, 4, .inl (fun _ => 0)))] H := hP
  have hD : va_D A [(h, .inr (0, [.ref a0, .null, .null, .int 0, .int 0, .null, .null, .null, .null, .null, .null, .null, .null, .null, .null, .null, .int 0, .null, .int 0])), (a0, .inl (cI, 4, .inl (fun _ => 0)))] := hD
  refine lv_aload_n C.1 C.2.1 dX0_init_11 rfl (lv_at hl 0 rfl) ?_
  refine lv_iconst (v := 4) C.1 C.2.1 dX0_init_12 (by decide) ?_
  refine os_newI (N' := 4) C hP hD hS hA (by decide) (by decide) (by decide) (Nat.le_of_ble_eq_true rfl) (Nat.le_of_ble_eq_true rfl) dX0_init_13 (fun a1 H hP hD hS => ?_)
  refine W.widen (k := 2) (n := 8) (Nat.le_of_ble_eq_true rfl) (Nat.le_of_ble_eq_true rfl) ?_
  have hP : va_P D os_cls [(h, .inr (0, [.ref a0, .null, .null, .int 0, .int 0, .null, .null, .null, .null, .null, .null, .null, .null, .null, .null, .null, .int 0, .null, .int 0])), (a0, .inl (cI, 4, .inl (fun _ => 0))), (a1, .inl (cI, 4, .inl (fun _ => 0)))] H := hP
  have hD : va_D A [(h, .inr (0, [.ref a0, .null, .null, .int 0, .int 0, .null, .null, .null, .null, .null, .null, .null, .null, .null, .null, .null, .int 0, .null, .int 0])), (a0, .inl (cI, 4, .inl (fun _ => 0))), (a1, .inl (cI, 4, .inl (fun _ => 0)))] := hD
  refine va_putF (D := D) (ci := 0) (v := .ref a1) (ty := .array .int) (C := RX0) (T := TX0) (N := 19) C.1 C.2.1 hts in_X0 tyX0 tyX0_ok nmX0 hown hK hP hD hS 0 rfl rfl 1 (by decide) (hts _ q38) (fun _ h9 => h9) rfl hin rfl (by decide +kernel) rfl rfl (Nat.le_of_ble_eq_true rfl) dX0_init_15 (fun H locs hP hD hS => ?_)
  have hP : va_P D os_cls [(h, .inr (0, [.ref a0, .ref a1, .null, .int 0, .int 0, .null, .null, .null, .null, .null, .null, .null, .null, .null, .null, .null, .int 0, .null, .int 0])), (a0, .inl (cI, 4, .inl (fun _ => 0))), (a1, .inl (cI, 4, .inl (fun _ => 0)))] H := hP
  have hD : va_D A [(h, .inr (0, [.ref a0, .ref a1, .null, .int 0, .int 0, .null, .null, .null, .null, .null, .null, .null, .null, .null, .null, .null, .int 0, .null, .int 0])), (a0, .inl (cI, 4, .inl (fun _ => 0))), (a1, .inl (cI, 4, .inl (fun _ => 0)))] := hD
  refine lv_aload_n C.1 C.2.1 dX0_init_18 rfl (lv_at hl 0 rfl) ?_
  refine lv_iconst (v := 4) C.1 C.2.1 dX0_init_19 (by decide) ?_
  refine os_newI (N' := 4) C hP hD hS hA (by decide) (by decide) (by decide) (Nat.le_of_ble_eq_true rfl) (Nat.le_of_ble_eq_true rfl) dX0_init_20 (fun a2 H hP hD hS => ?_)
  refine W.widen (k := 3) (n := 12) (Nat.le_of_ble_eq_true rfl) (Nat.le_of_ble_eq_true rfl) ?_
  have hP : va_P D os_cls [(h, .inr (0, [.ref a0, .ref a1, .null, .int 0, .int 0, .null, .null, .null, .null, .null, .null, .null, .null, .null, .null, .null, .int 0, .null, .int 0])), (a0, .inl (cI, 4, .inl (fun _ => 0))), (a1, .inl (cI, 4, .inl (fun _ => 0))), (a2, .inl (cI, 4, .inl (fun _ => 0)))] H := hP
  have hD : va_D A [(h, .inr (0, [.ref a0, .ref a1, .null, .int 0, .int 0, .null, .null, .null, .null, .null, .null, .null, .null, .null, .null, .null, .int 0, .null, .int 0])), (a0, .inl (cI, 4, .inl (fun _ => 0))), (a1, .inl (cI, 4, .inl (fun _ => 0))), (a2, .inl (cI, 4, .inl (fun _ => 0)))] := hD
  refine va_putF (D := D) (ci := 0) (v := .ref a2) (ty := .array .int) (C := RX0) (T := TX0) (N := 19) C.1 C.2.1 hts in_X0 tyX0 tyX0_ok nmX0 hown hK hP hD hS 0 rfl rfl 2 (by decide) (hts _ q39) (fun _ h9 => h9) rfl hin rfl (by decide +kernel) rfl rfl (Nat.le_of_ble_eq_true rfl) dX0_init_22 (fun H locs hP hD hS => ?_)
  have hP : va_P D os_cls [(h, .inr (0, [.ref a0, .ref a1, .ref a2, .int 0, .int 0, .null, .null, .null, .null, .null, .null, .null, .null, .null, .null, .null, .int 0, .null, .int 0])), (a0, .inl (cI, 4, .inl (fun _ => 0))), (a1, .inl (cI, 4, .inl (fun _ => 0))), (a2, .inl (cI, 4, .inl (fun _ => 0)))] H := hP
  have hD : va_D A [(h, .inr (0, [.ref a0, .ref a1, .ref a2, .int 0, .int 0, .null, .null, .null, .null, .null, .null, .null, .null, .null, .null, .null, .int 0, .null, .int 0])), (a0, .inl (cI, 4, .inl (fun _ => 0))), (a1, .inl (cI, 4, .inl (fun _ => 0))), (a2, .inl (cI, 4, .inl (fun _ => 0)))] := hD
  refine lv_aload_n C.1 C.2.1 dX0_init_25 rfl (lv_at hl 0 rfl) ?_
  refine lv_bipush (v := 96) C.1 C.2.1 dX0_init_26 (by decide) ?_
  refine os_newZ (N' := 96) C hP hD hS hA (by decide) (by decide) (by decide) (Nat.le_of_ble_eq_true rfl) (Nat.le_of_ble_eq_true rfl) dX0_init_28 (fun a5 H hP hD hS => ?_)
  refine W.widen (k := 4) (n := 108) (Nat.le_of_ble_eq_true rfl) (Nat.le_of_ble_eq_true rfl) ?_
  have hP : va_P D os_cls [(h, .inr (0, [.ref a0, .ref a1, .ref a2, .int 0, .int 0, .null, .null, .null, .null, .null, .null, .null, .null, .null, .null, .null, .int 0, .null, .int 0])), (a0, .inl (cI, 4, .inl (fun _ => 0))), (a1, .inl (cI, 4, .inl (fun _ => 0))), (a2, .inl (cI, 4, .inl (fun _ => 0))), (a5, .inl (cZ, 96, .inl (fun _ => 0)))] H := hP
  have hD : va_D A [(h, .inr (0, [.ref a0, .ref a1, .ref a2, .int 0, .int 0, .null, .null, .null, .null, .null, .null, .null, .null, .null, .null, .null, .int 0, .null, .int 0])), (a0, .inl (cI, 4, .inl (fun _ => 0))), (a1, .inl (cI, 4, .inl (fun _ => 0))), (a2, .inl (cI, 4, .inl (fun _ => 0))), (a5, .inl (cZ, 96, .inl (fun _ => 0)))] := hD
  refine va_putF (D := D) (ci := 0) (v := .ref a5) (ty := .array .boolean) (C := RX0) (T := TX0) (N := 19) C.1 C.2.1 hts in_X0 tyX0 tyX0_ok nmX0 hown hK hP hD hS 0 rfl rfl 5 (by decide) (hts _ q42) (fun _ h9 => h9) rfl hin rfl (by decide +kernel) rfl rfl (Nat.le_of_ble_eq_true rfl) dX0_init_30 (fun H locs hP hD hS => ?_)
  have hP : va_P D os_cls [(h, .inr (0, [.ref a0, .ref a1, .ref a2, .int 0, .int 0, .ref a5, .null, .null, .null, .null, .null, .null, .null, .null, .null, .null, .int 0, .null, .int 0])), (a0, .inl (cI, 4, .inl (fun _ => 0))), (a1, .inl (cI, 4, .inl (fun _ => 0))), (a2, .inl (cI, 4, .inl (fun _ => 0))), (a5, .inl (cZ, 96, .inl (fun _ => 0)))] H := hP
  have hD : va_D A [(h, .inr (0, [.ref a0, .ref a1, .ref a2, .int 0, .int 0, .ref a5, .null, .null, .null, .null, .null, .null, .null, .null, .null, .null, .int 0, .null, .int 0])), (a0, .inl (cI, 4, .inl (fun _ => 0))), (a1, .inl (cI, 4, .inl (fun _ => 0))), (a2, .inl (cI, 4, .inl (fun _ => 0))), (a5, .inl (cZ, 96, .inl (fun _ => 0)))] := hD
  refine lv_aload_n C.1 C.2.1 dX0_init_33 rfl (lv_at hl 0 rfl) ?_
  refine lv_bipush (v := 96) C.1 C.2.1 dX0_init_34 (by decide) ?_
  refine os_newI (N' := 96) C hP hD hS hA (by decide) (by decide) (by decide) (Nat.le_of_ble_eq_true rfl) (Nat.le_of_ble_eq_true rfl) dX0_init_36 (fun a6 H hP hD hS => ?_)
  refine W.widen (k := 5) (n := 204) (Nat.le_of_ble_eq_true rfl) (Nat.le_of_ble_eq_true rfl) ?_
  have hP : va_P D os_cls [(h, .inr (0, [.ref a0, .ref a1, .ref a2, .int 0, .int 0, .ref a5, .null, .null, .null, .null, .null, .null, .null, .null, .null, .null, .int 0, .null, .int 0])), (a0, .inl (cI, 4, .inl (fun _ => 0))), (a1, .inl (cI, 4, .inl (fun _ => 0))), (a2, .inl (cI, 4, .inl (fun _ => 0))), (a5, .inl (cZ, 96, .inl (fun _ => 0))), (a6, .inl (cI, 96, .inl (fun _ => 0)))] H := hP
  have hD : va_D A [(h, .inr (0, [.ref a0, .ref a1, .ref a2, .int 0, .int 0, .ref a5, .null, .null, .null, .null, .null, .null, .null, .null, .null, .null, .int 0, .null, .int 0])), (a0, .inl (cI, 4, .inl (fun _ => 0))), (a1, .inl (cI, 4, .inl (fun _ => 0))), (a2, .inl (cI, 4, .inl (fun _ => 0))), (a5, .inl (cZ, 96, .inl (fun _ => 0))), (a6, .inl (cI, 96, .inl (fun _ => 0)))] := hD
  refine va_putF (D := D) (ci := 0) (v := .ref a6) (ty := .array .int) (C := RX0) (T := TX0) (N := 19) C.1 C.2.1 hts in_X0 tyX0 tyX0_ok nmX0 hown hK hP hD hS 0 rfl rfl 6 (by decide) (hts _ q43) (fun _ h9 => h9) rfl hin rfl (by decide +kernel) rfl rfl (Nat.le_of_ble_eq_true rfl) dX0_init_38 (fun H locs hP hD hS => ?_)
  have hP : va_P D os_cls [(h, .inr (0, [.ref a0, .ref a1, .ref a2, .int 0, .int 0, .ref a5, .ref a6, .null, .null, .null, .null, .null, .null, .null, .null, .null, .int 0, .null, .int 0])), (a0, .inl (cI, 4, .inl (fun _ => 0))), (a1, .inl (cI, 4, .inl (fun _ => 0))), (a2, .inl (cI, 4, .inl (fun _ => 0))), (a5, .inl (cZ, 96, .inl (fun _ => 0))), (a6, .inl (cI, 96, .inl (fun _ => 0)))] H := hP
  have hD : va_D A [(h, .inr (0, [.ref a0, .ref a1, .ref a2, .int 0, .int 0, .ref a5, .ref a6, .null, .null, .null, .null, .null, .null, .null, .null, .null, .int 0, .null, .int 0])), (a0, .inl (cI, 4, .inl (fun _ => 0))), (a1, .inl (cI, 4, .inl (fun _ => 0))), (a2, .inl (cI, 4, .inl (fun _ => 0))), (a5, .inl (cZ, 96, .inl (fun _ => 0))), (a6, .inl (cI, 96, .inl (fun _ => 0)))] := hD
  refine lv_aload_n C.1 C.2.1 dX0_init_41 rfl (lv_at hl 0 rfl) ?_
  refine lv_bipush (v := 96) C.1 C.2.1 dX0_init_42 (by decide) ?_
  refine os_newI (N' := 96) C hP hD hS hA (by decide) (by decide) (by decide) (Nat.le_of_ble_eq_true rfl) (Nat.le_of_ble_eq_true rfl) dX0_init_44 (fun a7 H hP hD hS => ?_)
  refine W.widen (k := 6) (n := 300) (Nat.le_of_ble_eq_true rfl) (Nat.le_of_ble_eq_true rfl) ?_
  have hP : va_P D os_cls [(h, .inr (0, [.ref a0, .ref a1, .ref a2, .int 0, .int 0, .ref a5, .ref a6, .null, .null, .null, .null, .null, .null, .null, .null, .null, .int 0, .null, .int 0])), (a0, .inl (cI, 4, .inl (fun _ => 0))), (a1, .inl (cI, 4, .inl (fun _ => 0))), (a2, .inl (cI, 4, .inl (fun _ => 0))), (a5, .inl (cZ, 96, .inl (fun _ => 0))), (a6, .inl (cI, 96, .inl (fun _ => 0))), (a7, .inl (cI, 96, .inl (fun _ => 0)))] H := hP
  have hD : va_D A [(h, .inr (0, [.ref a0, .ref a1, .ref a2, .int 0, .int 0, .ref a5, .ref a6, .null, .null, .null, .null, .null, .null, .null, .null, .null, .int 0, .null, .int 0])), (a0, .inl (cI, 4, .inl (fun _ => 0))), (a1, .inl (cI, 4, .inl (fun _ => 0))), (a2, .inl (cI, 4, .inl (fun _ => 0))), (a5, .inl (cZ, 96, .inl (fun _ => 0))), (a6, .inl (cI, 96, .inl (fun _ => 0))), (a7, .inl (cI, 96, .inl (fun _ => 0)))] := hD
  refine va_putF (D := D) (ci := 0) (v := .ref a7) (ty := .array .int) (C := RX0) (T := TX0) (N := 19) C.1 C.2.1 hts in_X0 tyX0 tyX0_ok nmX0 hown hK hP hD hS 0 rfl rfl 7 (by decide) (hts _ q44) (fun _ h9 => h9) rfl hin rfl (by decide +kernel) rfl rfl (Nat.le_of_ble_eq_true rfl) dX0_init_46 (fun H locs hP hD hS => ?_)
  have hP : va_P D os_cls [(h, .inr (0, [.ref a0, .ref a1, .ref a2, .int 0, .int 0, .ref a5, .ref a6, .ref a7, .null, .null, .null, .null, .null, .null, .null, .null, .int 0, .null, .int 0])), (a0, .inl (cI, 4, .inl (fun _ => 0))), (a1, .inl (cI, 4, .inl (fun _ => 0))), (a2, .inl (cI, 4, .inl (fun _ => 0))), (a5, .inl (cZ, 96, .inl (fun _ => 0))), (a6, .inl (cI, 96, .inl (fun _ => 0))), (a7, .inl (cI, 96, .inl (fun _ => 0)))] H := hP
  have hD : va_D A [(h, .inr (0, [.ref a0, .ref a1, .ref a2, .int 0, .int 0, .ref a5, .ref a6, .ref a7, .null, .null, .null, .null, .null, .null, .null, .null, .int 0, .null, .int 0])), (a0, .inl (cI, 4, .inl (fun _ => 0))), (a1, .inl (cI, 4, .inl (fun _ => 0))), (a2, .inl (cI, 4, .inl (fun _ => 0))), (a5, .inl (cZ, 96, .inl (fun _ => 0))), (a6, .inl (cI, 96, .inl (fun _ => 0))), (a7, .inl (cI, 96, .inl (fun _ => 0)))] := hD
  refine lv_aload_n C.1 C.2.1 dX0_init_49 rfl (lv_at hl 0 rfl) ?_
  refine lv_bipush (v := 96) C.1 C.2.1 dX0_init_50 (by decide) ?_
  refine os_newI (N' := 96) C hP hD hS hA (by decide) (by decide) (by decide) (Nat.le_of_ble_eq_true rfl) (Nat.le_of_ble_eq_true rfl) dX0_init_52 (fun a8 H hP hD hS => ?_)
  refine W.widen (k := 7) (n := 396) (Nat.le_of_ble_eq_true rfl) (Nat.le_of_ble_eq_true rfl) ?_
  have hP : va_P D os_cls [(h, .inr (0, [.ref a0, .ref a1, .ref a2, .int 0, .int 0, .ref a5, .ref a6, .ref a7, .null, .null, .null, .null, .null, .null, .null, .null, .int 0, .null, .int 0])), (a0, .inl (cI, 4, .inl (fun _ => 0))), (a1, .inl (cI, 4, .inl (fun _ => 0))), (a2, .inl (cI, 4, .inl (fun _ => 0))), (a5, .inl (cZ, 96, .inl (fun _ => 0))), (a6, .inl (cI, 96, .inl (fun _ => 0))), (a7, .inl (cI, 96, .inl (fun _ => 0))), (a8, .inl (cI, 96, .inl (fun _ => 0)))] H := hP
  have hD : va_D A [(h, .inr (0, [.ref a0, .ref a1, .ref a2, .int 0, .int 0, .ref a5, .ref a6, .ref a7, .null, .null, .null, .null, .null, .null, .null, .null, .int 0, .null, .int 0])), (a0, .inl (cI, 4, .inl (fun _ => 0))), (a1, .inl (cI, 4, .inl (fun _ => 0))), (a2, .inl (cI, 4, .inl (fun _ => 0))), (a5, .inl (cZ, 96, .inl (fun _ => 0))), (a6, .inl (cI, 96, .inl (fun _ => 0))), (a7, .inl (cI, 96, .inl (fun _ => 0))), (a8, .inl (cI, 96, .inl (fun _ => 0)))] := hD
  refine va_putF (D := D) (ci := 0) (v := .ref a8) (ty := .array .int) (C := RX0) (T := TX0) (N := 19) C.1 C.2.1 hts in_X0 tyX0 tyX0_ok nmX0 hown hK hP hD hS 0 rfl rfl 8 (by decide) (hts _ q45) (fun _ h9 => h9) rfl hin rfl (by decide +kernel) rfl rfl (Nat.le_of_ble_eq_true rfl) dX0_init_54 (fun H locs hP hD hS => ?_)
  have hP : va_P D os_cls [(h, .inr (0, [.ref a0, .ref a1, .ref a2, .int 0, .int 0, .ref a5, .ref a6, .ref a7, .ref a8, .null, .null, .null, .null, .null, .null, .null, .int 0, .null, .int 0])), (a0, .inl (cI, 4, .inl (fun _ => 0))), (a1, .inl (cI, 4, .inl (fun _ => 0))), (a2, .inl (cI, 4, .inl (fun _ => 0))), (a5, .inl (cZ, 96, .inl (fun _ => 0))), (a6, .inl (cI, 96, .inl (fun _ => 0))), (a7, .inl (cI, 96, .inl (fun _ => 0))), (a8, .inl (cI, 96, .inl (fun _ => 0)))] H := hP
  have hD : va_D A [(h, .inr (0, [.ref a0, .ref a1, .ref a2, .int 0, .int 0, .ref a5, .ref a6, .ref a7, .ref a8, .null, .null, .null, .null, .null, .null, .null, .int 0, .null, .int 0])), (a0, .inl (cI, 4, .inl (fun _ => 0))), (a1, .inl (cI, 4, .inl (fun _ => 0))), (a2, .inl (cI, 4, .inl (fun _ => 0))), (a5, .inl (cZ, 96, .inl (fun _ => 0))), (a6, .inl (cI, 96, .inl (fun _ => 0))), (a7, .inl (cI, 96, .inl (fun _ => 0))), (a8, .inl (cI, 96, .inl (fun _ => 0)))] := hD
  refine lv_aload_n C.1 C.2.1 dX0_init_57 rfl (lv_at hl 0 rfl) ?_
  refine lv_bipush (v := 96) C.1 C.2.1 dX0_init_58 (by decide) ?_
  refine os_newI (N' := 96) C hP hD hS hA (by decide) (by decide) (by decide) (Nat.le_of_ble_eq_true rfl) (Nat.le_of_ble_eq_true rfl) dX0_init_60 (fun a9 H hP hD hS => ?_)
  refine W.widen (k := 8) (n := 492) (Nat.le_of_ble_eq_true rfl) (Nat.le_of_ble_eq_true rfl) ?_
  have hP : va_P D os_cls [(h, .inr (0, [.ref a0, .ref a1, .ref a2, .int 0, .int 0, .ref a5, .ref a6, .ref a7, .ref a8, .null, .null, .null, .null, .null, .null, .null, .int 0, .null, .int 0])), (a0, .inl (cI, 4, .inl (fun _ => 0))), (a1, .inl (cI, 4, .inl (fun _ => 0))), (a2, .inl (cI, 4, .inl (fun _ => 0))), (a5, .inl (cZ, 96, .inl (fun _ => 0))), (a6, .inl (cI, 96, .inl (fun _ => 0))), (a7, .inl (cI, 96, .inl (fun _ => 0))), (a8, .inl (cI, 96, .inl (fun _ => 0))), (a9, .inl (cI, 96, .inl (fun _ => 0)))] H := hP
  have hD : va_D A [(h, .inr (0, [.ref a0, .ref a1, .ref a2, .int 0, .int 0, .ref a5, .ref a6, .ref a7, .ref a8, .null, .null, .null, .null, .null, .null, .null, .int 0, .null, .int 0])), (a0, .inl (cI, 4, .inl (fun _ => 0))), (a1, .inl (cI, 4, .inl (fun _ => 0))), (a2, .inl (cI, 4, .inl (fun _ => 0))), (a5, .inl (cZ, 96, .inl (fun _ => 0))), (a6, .inl (cI, 96, .inl (fun _ => 0))), (a7, .inl (cI, 96, .inl (fun _ => 0))), (a8, .inl (cI, 96, .inl (fun _ => 0))), (a9, .inl (cI, 96, .inl (fun _ => 0)))] := hD
  refine va_putF (D := D) (ci := 0) (v := .ref a9) (ty := .array .int) (C := RX0) (T := TX0) (N := 19) C.1 C.2.1 hts in_X0 tyX0 tyX0_ok nmX0 hown hK hP hD hS 0 rfl rfl 9 (by decide) (hts _ q46) (fun _ h9 => h9) rfl hin rfl (by decide +kernel) rfl rfl (Nat.le_of_ble_eq_true rfl) dX0_init_62 (fun H locs hP hD hS => ?_)
  have hP : va_P D os_cls [(h, .inr (0, [.ref a0, .ref a1, .ref a2, .int 0, .int 0, .ref a5, .ref a6, .ref a7, .ref a8, .ref a9, .null, .null, .null, .null, .null, .null, .int 0, .null, .int 0])), (a0, .inl (cI, 4, .inl (fun _ => 0))), (a1, .inl (cI, 4, .inl (fun _ => 0))), (a2, .inl (cI, 4, .inl (fun _ => 0))), (a5, .inl (cZ, 96, .inl (fun _ => 0))), (a6, .inl (cI, 96, .inl (fun _ => 0))), (a7, .inl (cI, 96, .inl (fun _ => 0))), (a8, .inl (cI, 96, .inl (fun _ => 0))), (a9, .inl (cI, 96, .inl (fun _ => 0)))] H := hP
  have hD : va_D A [(h, .inr (0, [.ref a0, .ref a1, .ref a2, .int 0, .int 0, .ref a5, .ref a6, .ref a7, .ref a8, .ref a9, .null, .null, .null, .null, .null, .null, .int 0, .null, .int 0])), (a0, .inl (cI, 4, .inl (fun _ => 0))), (a1, .inl (cI, 4, .inl (fun _ => 0))), (a2, .inl (cI, 4, .inl (fun _ => 0))), (a5, .inl (cZ, 96, .inl (fun _ => 0))), (a6, .inl (cI, 96, .inl (fun _ => 0))), (a7, .inl (cI, 96, .inl (fun _ => 0))), (a8, .inl (cI, 96, .inl (fun _ => 0))), (a9, .inl (cI, 96, .inl (fun _ => 0)))] := hD
  refine lv_aload_n C.1 C.2.1 dX0_init_65 rfl (lv_at hl 0 rfl) ?_
  refine lv_bipush (v := 96) C.1 C.2.1 dX0_init_66 (by decide) ?_
  refine os_newZ (N' := 96) C hP hD hS hA (by decide) (by decide) (by decide) (Nat.le_of_ble_eq_true rfl) (Nat.le_of_ble_eq_true rfl) dX0_init_68 (fun a10 H hP hD hS => ?_)
  refine W.widen (k := 9) (n := 588) (Nat.le_of_ble_eq_true rfl) (Nat.le_of_ble_eq_true rfl) ?_
  have hP : va_P D os_cls [(h, .inr (0, [.ref a0, .ref a1, .ref a2, .int 0, .int 0, .ref a5, .ref a6, .ref a7, .ref a8, .ref a9, .null, .null, .null, .null, .null, .null, .int 0, .null, .int 0])), (a0, .inl (cI, 4, .inl (fun _ => 0))), (a1, .inl (cI, 4, .inl (fun _ => 0))), (a2, .inl (cI, 4, .inl (fun _ => 0))), (a5, .inl (cZ, 96, .inl (fun _ => 0))), (a6, .inl (cI, 96, .inl (fun _ => 0))), (a7, .inl (cI, 96, .inl (fun _ => 0))), (a8, .inl (cI, 96, .inl (fun _ => 0))), (a9, .inl (cI, 96, .inl (fun _ => 0))), (a10, .inl (cZ, 96, .inl (fun _ => 0)))] H := hP
  have hD : va_D A [(h, .inr (0, [.ref a0, .ref a1, .ref a2, .int 0, .int 0, .ref a5, .ref a6, .ref a7, .ref a8, .ref a9, .null, .null, .null, .null, .null, .null, .int 0, .null, .int 0])), (a0, .inl (cI, 4, .inl (fun _ => 0))), (a1, .inl (cI, 4, .inl (fun _ => 0))), (a2, .inl (cI, 4, .inl (fun _ => 0))), (a5, .inl (cZ, 96, .inl (fun _ => 0))), (a6, .inl (cI, 96, .inl (fun _ => 0))), (a7, .inl (cI, 96, .inl (fun _ => 0))), (a8, .inl (cI, 96, .inl (fun _ => 0))), (a9, .inl (cI, 96, .inl (fun _ => 0))), (a10, .inl (cZ, 96, .inl (fun _ => 0)))] := hD
  refine va_putF (D := D) (ci := 0) (v := .ref a10) (ty := .array .boolean) (C := RX0) (T := TX0) (N := 19) C.1 C.2.1 hts in_X0 tyX0 tyX0_ok nmX0 hown hK hP hD hS 0 rfl rfl 10 (by decide) (hts _ q47) (fun _ h9 => h9) rfl hin rfl (by decide +kernel) rfl rfl (Nat.le_of_ble_eq_true rfl) dX0_init_70 (fun H locs hP hD hS => ?_)
  have hP : va_P D os_cls [(h, .inr (0, [.ref a0, .ref a1, .ref a2, .int 0, .int 0, .ref a5, .ref a6, .ref a7, .ref a8, .ref a9, .ref a10, .null, .null, .null, .null, .null, .int 0, .null, .int 0])), (a0, .inl (cI, 4, .inl (fun _ => 0))), (a1, .inl (cI, 4, .inl (fun _ => 0))), (a2, .inl (cI, 4, .inl (fun _ => 0))), (a5, .inl (cZ, 96, .inl (fun _ => 0))), (a6, .inl (cI, 96, .inl (fun _ => 0))), (a7, .inl (cI, 96, .inl (fun _ => 0))), (a8, .inl (cI, 96, .inl (fun _ => 0))), (a9, .inl (cI, 96, .inl (fun _ => 0))), (a10, .inl (cZ, 96, .inl (fun _ => 0)))] H := hP
  have hD : va_D A [(h, .inr (0, [.ref a0, .ref a1, .ref a2, .int 0, .int 0, .ref a5, .ref a6, .ref a7, .ref a8, .ref a9, .ref a10, .null, .null, .null, .null, .null, .int 0, .null, .int 0])), (a0, .inl (cI, 4, .inl (fun _ => 0))), (a1, .inl (cI, 4, .inl (fun _ => 0))), (a2, .inl (cI, 4, .inl (fun _ => 0))), (a5, .inl (cZ, 96, .inl (fun _ => 0))), (a6, .inl (cI, 96, .inl (fun _ => 0))), (a7, .inl (cI, 96, .inl (fun _ => 0))), (a8, .inl (cI, 96, .inl (fun _ => 0))), (a9, .inl (cI, 96, .inl (fun _ => 0))), (a10, .inl (cZ, 96, .inl (fun _ => 0)))] := hD
  refine lv_aload_n C.1 C.2.1 dX0_init_73 rfl (lv_at hl 0 rfl) ?_
  refine lv_bipush (v := 96) C.1 C.2.1 dX0_init_74 (by decide) ?_
  refine os_newI (N' := 96) C hP hD hS hA (by decide) (by decide) (by decide) (Nat.le_of_ble_eq_true rfl) (Nat.le_of_ble_eq_true rfl) dX0_init_76 (fun a11 H hP hD hS => ?_)
  refine W.widen (k := 10) (n := 684) (Nat.le_of_ble_eq_true rfl) (Nat.le_of_ble_eq_true rfl) ?_
  have hP : va_P D os_cls [(h, .inr (0, [.ref a0, .ref a1, .ref a2, .int 0, .int 0, .ref a5, .ref a6, .ref a7, .ref a8, .ref a9, .ref a10, .null, .null, .null, .null, .null, .int 0, .null, .int 0])), (a0, .inl (cI, 4, .inl (fun _ => 0))), (a1, .inl (cI, 4, .inl (fun _ => 0))), (a2, .inl (cI, 4, .inl (fun _ => 0))), (a5, .inl (cZ, 96, .inl (fun _ => 0))), (a6, .inl (cI, 96, .inl (fun _ => 0))), (a7, .inl (cI, 96, .inl (fun _ => 0))), (a8, .inl (cI, 96, .inl (fun _ => 0))), (a9, .inl (cI, 96, .inl (fun _ => 0))), (a10, .inl (cZ, 96, .inl (fun _ => 0))), (a11, .inl (cI, 96, .inl (fun _ => 0)))] H := hP
  have hD : va_D A [(h, .inr (0, [.ref a0, .ref a1, .ref a2, .int 0, .int 0, .ref a5, .ref a6, .ref a7, .ref a8, .ref a9, .ref a10, .null, .null, .null, .null, .null, .int 0, .null, .int 0])), (a0, .inl (cI, 4, .inl (fun _ => 0))), (a1, .inl (cI, 4, .inl (fun _ => 0))), (a2, .inl (cI, 4, .inl (fun _ => 0))), (a5, .inl (cZ, 96, .inl (fun _ => 0))), (a6, .inl (cI, 96, .inl (fun _ => 0))), (a7, .inl (cI, 96, .inl (fun _ => 0))), (a8, .inl (cI, 96, .inl (fun _ => 0))), (a9, .inl (cI, 96, .inl (fun _ => 0))), (a10, .inl (cZ, 96, .inl (fun _ => 0))), (a11, .inl (cI, 96, .inl (fun _ => 0)))] := hD
  refine va_putF (D := D) (ci := 0) (v := .ref a11) (ty := .array .int) (C := RX0) (T := TX0) (N := 19) C.1 C.2.1 hts in_X0 tyX0 tyX0_ok nmX0 hown hK hP hD hS 0 rfl rfl 11 (by decide) (hts _ q48) (fun _ h9 => h9) rfl hin rfl (by decide +kernel) rfl rfl (Nat.le_of_ble_eq_true rfl) dX0_init_78 (fun H locs hP hD hS => ?_)
  have hP : va_P D os_cls [(h, .inr (0, [.ref a0, .ref a1, .ref a2, .int 0, .int 0, .ref a5, .ref a6, .ref a7, .ref a8, .ref a9, .ref a10, .ref a11, .null, .null, .null, .null, .int 0, .null, .int 0])), (a0, .inl (cI, 4, .inl (fun _ => 0))), (a1, .inl (cI, 4, .inl (fun _ => 0))), (a2, .inl (cI, 4, .inl (fun _ => 0))), (a5, .inl (cZ, 96, .inl (fun _ => 0))), (a6, .inl (cI, 96, .inl (fun _ => 0))), (a7, .inl (cI, 96, .inl (fun _ => 0))), (a8, .inl (cI, 96, .inl (fun _ => 0))), (a9, .inl (cI, 96, .inl (fun _ => 0))), (a10, .inl (cZ, 96, .inl (fun _ => 0))), (a11, .inl (cI, 96, .inl (fun _ => 0)))] H := hP
  have hD : va_D A [(h, .inr (0, [.ref a0, .ref a1, .ref a2, .int 0, .int 0, .ref a5, .ref a6, .ref a7, .ref a8, .ref a9, .ref a10, .ref a11, .null, .null, .null, .null, .int 0, .null, .int 0])), (a0, .inl (cI, 4, .inl (fun _ => 0))), (a1, .inl (cI, 4, .inl (fun _ => 0))), (a2, .inl (cI, 4, .inl (fun _ => 0))), (a5, .inl (cZ, 96, .inl (fun _ => 0))), (a6, .inl (cI, 96, .inl (fun _ => 0))), (a7, .inl (cI, 96, .inl (fun _ => 0))), (a8, .inl (cI, 96, .inl (fun _ => 0))), (a9, .inl (cI, 96, .inl (fun _ => 0))), (a10, .inl (cZ, 96, .inl (fun _ => 0))), (a11, .inl (cI, 96, .inl (fun _ => 0)))] := hD
  refine lv_aload_n C.1 C.2.1 dX0_init_81 rfl (lv_at hl 0 rfl) ?_
  refine lv_bipush (v := 96) C.1 C.2.1 dX0_init_82 (by decide) ?_
  refine os_newI (N' := 96) C hP hD hS hA (by decide) (by decide) (by decide) (Nat.le_of_ble_eq_true rfl) (Nat.le_of_ble_eq_true rfl) dX0_init_84 (fun a12 H hP hD hS => ?_)
  refine W.widen (k := 11) (n := 780) (Nat.le_of_ble_eq_true rfl) (Nat.le_of_ble_eq_true rfl) ?_
  have hP : va_P D os_cls [(h, .inr (0, [.ref a0, .ref a1, .ref a2, .int 0, .int 0, .ref a5, .ref a6, .ref a7, .ref a8, .ref a9, .ref a10, .ref a11, .null, .null, .null, .null, .int 0, .null, .int 0])), (a0, .inl (cI, 4, .inl (fun _ => 0))), (a1, .inl (cI, 4, .inl (fun _ => 0))), (a2, .inl (cI, 4, .inl (fun _ => 0))), (a5, .inl (cZ, 96, .inl (fun _ => 0))), (a6, .inl (cI, 96, .inl (fun _ => 0))), (a7, .inl (cI, 96, .inl (fun _ => 0))), (a8, .inl (cI, 96, .inl (fun _ => 0))), (a9, .inl (cI, 96, .inl (fun _ => 0))), (a10, .inl (cZ, 96, .inl (fun _ => 0))), (a11, .inl (cI, 96, .inl (fun _ => 0))), (a12, .inl (cI, 96, .inl (fun _ => 0)))] H := hP
  have hD : va_D A [(h, .inr (0, [.ref a0, .ref a1, .ref a2, .int 0, .int 0, .ref a5, .ref a6, .ref a7, .ref a8, .ref a9, .ref a10, .ref a11, .null, .null, .null, .null, .int 0, .null, .int 0])), (a0, .inl (cI, 4, .inl (fun _ => 0))), (a1, .inl (cI, 4, .inl (fun _ => 0))), (a2, .inl (cI, 4, .inl (fun _ => 0))), (a5, .inl (cZ, 96, .inl (fun _ => 0))), (a6, .inl (cI, 96, .inl (fun _ => 0))), (a7, .inl (cI, 96, .inl (fun _ => 0))), (a8, .inl (cI, 96, .inl (fun _ => 0))), (a9, .inl (cI, 96, .inl (fun _ => 0))), (a10, .inl (cZ, 96, .inl (fun _ => 0))), (a11, .inl (cI, 96, .inl (fun _ => 0))), (a12, .inl (cI, 96, .inl (fun _ => 0)))] := hD
  refine va_putF (D := D) (ci := 0) (v := .ref a12) (ty := .array .int) (C := RX0) (T := TX0) (N := 19) C.1 C.2.1 hts in_X0 tyX0 tyX0_ok nmX0 hown hK hP hD hS 0 rfl rfl 12 (by decide) (hts _ q49) (fun _ h9 => h9) rfl hin rfl (by decide +kernel) rfl rfl (Nat.le_of_ble_eq_true rfl) dX0_init_86 (fun H locs hP hD hS => ?_)
  have hP : va_P D os_cls [(h, .inr (0, [.ref a0, .ref a1, .ref a2, .int 0, .int 0, .ref a5, .ref a6, .ref a7, .ref a8, .ref a9, .ref a10, .ref a11, .ref a12, .null, .null, .null, .int 0, .null, .int 0])), (a0, .inl (cI, 4, .inl (fun _ => 0))), (a1, .inl (cI, 4, .inl (fun _ => 0))), (a2, .inl (cI, 4, .inl (fun _ => 0))), (a5, .inl (cZ, 96, .inl (fun _ => 0))), (a6, .inl (cI, 96, .inl (fun _ => 0))), (a7, .inl (cI, 96, .inl (fun _ => 0))), (a8, .inl (cI, 96, .inl (fun _ => 0))), (a9, .inl (cI, 96, .inl (fun _ => 0))), (a10, .inl (cZ, 96, .inl (fun _ => 0))), (a11, .inl (cI, 96, .inl (fun _ => 0))), (a12, .inl (cI, 96, .inl (fun _ => 0)))] H := hP
  have hD : va_D A [(h, .inr (0, [.ref a0, .ref a1, .ref a2, .int 0, .int 0, .ref a5, .ref a6, .ref a7, .ref a8, .ref a9, .ref a10, .ref a11, .ref a12, .null, .null, .null, .int 0, .null, .int 0])), (a0, .inl (cI, 4, .inl (fun _ => 0))), (a1, .inl (cI, 4, .inl (fun _ => 0))), (a2, .inl (cI, 4, .inl (fun _ => 0))), (a5, .inl (cZ, 96, .inl (fun _ => 0))), (a6, .inl (cI, 96, .inl (fun _ => 0))), (a7, .inl (cI, 96, .inl (fun _ => 0))), (a8, .inl (cI, 96, .inl (fun _ => 0))), (a9, .inl (cI, 96, .inl (fun _ => 0))), (a10, .inl (cZ, 96, .inl (fun _ => 0))), (a11, .inl (cI, 96, .inl (fun _ => 0))), (a12, .inl (cI, 96, .inl (fun _ => 0)))] := hD
  refine lv_aload_n C.1 C.2.1 dX0_init_89 rfl (lv_at hl 0 rfl) ?_
  refine lv_iconst (v := 4) C.1 C.2.1 dX0_init_90 (by decide) ?_
  refine os_newI (N' := 4) C hP hD hS hA (by decide) (by decide) (by decide) (Nat.le_of_ble_eq_true rfl) (Nat.le_of_ble_eq_true rfl) dX0_init_91 (fun a13 H hP hD hS => ?_)
  refine W.widen (k := 12) (n := 784) (Nat.le_of_ble_eq_true rfl) (Nat.le_of_ble_eq_true rfl) ?_
  have hP : va_P D os_cls [(h, .inr (0, [.ref a0, .ref a1, .ref a2, .int 0, .int 0, .ref a5, .ref a6, .ref a7, .ref a8, .ref a9, .ref a10, .ref a11, .ref a12, .null, .null, .null, .int 0, .null, .int 0])), (a0, .inl (cI, 4, .inl (fun _ => 0))), (a1, .inl (cI, 4, .inl (fun _ => 0))), (a2, .inl (cI, 4, .inl (fun _ => 0))), (a5, .inl (cZ, 96, .inl (fun _ => 0))), (a6, .inl (cI, 96, .inl (fun _ => 0))), (a7, .inl (cI, 96, .inl (fun _ => 0))), (a8, .inl (cI, 96, .inl (fun _ => 0))), (a9, .inl (cI, 96, .inl (fun _ => 0))), (a10, .inl (cZ, 96, .inl (fun _ => 0))), (a11, .inl (cI, 96, .inl (fun _ => 0))), (a12, .inl (cI, 96, .inl (fun _ => 0))), (a13, .inl (cI, 4, .inl (fun _ => 0)))] H := hP
  have hD : va_D A [(h, .inr (0, [.ref a0, .ref a1, .ref a2, .int 0, .int 0, .ref a5, .ref a6, .ref a7, .ref a8, .ref a9, .ref a10, .ref a11, .ref a12, .null, .null, .null, .int 0, .null, .int 0])), (a0, .inl (cI, 4, .inl (fun _ => 0))), (a1, .inl (cI, 4, .inl (fun _ => 0))), (a2, .inl (cI, 4, .inl (fun _ => 0))), (a5, .inl (cZ, 96, .inl (fun _ => 0))), (a6, .inl (cI, 96, .inl (fun _ => 0))), (a7, .inl (cI, 96, .inl (fun _ => 0))), (a8, .inl (cI, 96, .inl (fun _ => 0))), (a9, .inl (cI, 96, .inl (fun _ => 0))), (a10, .inl (cZ, 96, .inl (fun _ => 0))), (a11, .inl (cI, 96, .inl (fun _ => 0))), (a12, .inl (cI, 96, .inl (fun _ => 0))), (a13, .inl (cI, 4, .inl (fun _ => 0)))] := hD
  refine va_putF (D := D) (ci := 0) (v := .ref a13) (ty := .array .int) (C := RX0) (T := TX0) (N := 19) C.1 C.2.1 hts in_X0 tyX0 tyX0_ok nmX0 hown hK hP hD hS 0 rfl rfl 13 (by decide) (hts _ q50) (fun _ h9 => h9) rfl hin rfl (by decide +kernel) rfl rfl (Nat.le_of_ble_eq_true rfl) dX0_init_93 (fun H locs hP hD hS => ?_)
  have hP : va_P D os_cls [(h, .inr (0, [.ref a0, .ref a1, .ref a2, .int 0, .int 0, .ref a5, .ref a6, .ref a7, .ref a8, .ref a9, .ref a10, .ref a11, .ref a12, .ref a13, .null, .null, .int 0, .null, .int 0])), (a0, .inl (cI, 4, .inl (fun _ => 0))), (a1, .inl (cI, 4, .inl (fun _ => 0))), (a2, .inl (cI, 4, .inl (fun _ => 0))), (a5, .inl (cZ, 96, .inl (fun _ => 0))), (a6, .inl (cI, 96, .inl (fun _ => 0))), (a7, .inl (cI, 96, .inl (fun _ => 0))), (a8, .inl (cI, 96, .inl (fun _ => 0))), (a9, .inl (cI, 96, .inl (fun _ => 0))), (a10, .inl (cZ, 96, .inl (fun _ => 0))), (a11, .inl (cI, 96, .inl (fun _ => 0))), (a12, .inl (cI, 96, .inl (fun _ => 0))), (a13, .inl (cI, 4, .inl (fun _ => 0)))] H := hP
  have hD : va_D A [(h, .inr (0, [.ref a0, .ref a1, .ref a2, .int 0, .int 0, .ref a5, .ref a6, .ref a7, .ref a8, .ref a9, .ref a10, .ref a11, .ref a12, .ref a13, .null, .null, .int 0, .null, .int 0])), (a0, .inl (cI, 4, .inl (fun _ => 0))), (a1, .inl (cI, 4, .inl (fun _ => 0))), (a2, .inl (cI, 4, .inl (fun _ => 0))), (a5, .inl (cZ, 96, .inl (fun _ => 0))), (a6, .inl (cI, 96, .inl (fun _ => 0))), (a7, .inl (cI, 96, .inl (fun _ => 0))), (a8, .inl (cI, 96, .inl (fun _ => 0))), (a9, .inl (cI, 96, .inl (fun _ => 0))), (a10, .inl (cZ, 96, .inl (fun _ => 0))), (a11, .inl (cI, 96, .inl (fun _ => 0))), (a12, .inl (cI, 96, .inl (fun _ => 0))), (a13, .inl (cI, 4, .inl (fun _ => 0)))] := hD
  refine lv_aload_n C.1 C.2.1 dX0_init_96 rfl (lv_at hl 0 rfl) ?_
  refine lv_iconst (v := 4) C.1 C.2.1 dX0_init_97 (by decide) ?_
  refine os_newI (N' := 4) C hP hD hS hA (by decide) (by decide) (by decide) (Nat.le_of_ble_eq_true rfl) (Nat.le_of_ble_eq_true rfl) dX0_init_98 (fun a14 H hP hD hS => ?_)
  refine W.widen (k := 13) (n := 788) (Nat.le_of_ble_eq_true rfl) (Nat.le_of_ble_eq_true rfl) ?_
  have hP : va_P D os_cls [(h, .inr (0, [.ref a0, .ref a1, .ref a2, .int 0, .int 0, .ref a5, .ref a6, .ref a7, .ref a8, .ref a9, .ref a10, .ref a11, .ref a12, .ref a13, .null, .null, .int 0, .null, .int 0])), (a0, .inl (cI, 4, .inl (fun _ => 0))), (a1, .inl (cI, 4, .inl (fun _ => 0))), (a2, .inl (cI, 4, .inl (fun _ => 0))), (a5, .inl (cZ, 96, .inl (fun _ => 0))), (a6, .inl (cI, 96, .inl (fun _ => 0))), (a7, .inl (cI, 96, .inl (fun _ => 0))), (a8, .inl (cI, 96, .inl (fun _ => 0))), (a9, .inl (cI, 96, .inl (fun _ => 0))), (a10, .inl (cZ, 96, .inl (fun _ => 0))), (a11, .inl (cI, 96, .inl (fun _ => 0))), (a12, .inl (cI, 96, .inl (fun _ => 0))), (a13, .inl (cI, 4, .inl (fun _ => 0))), (a14, .inl (cI, 4, .inl (fun _ => 0)))] H := hP
  have hD : va_D A [(h, .inr (0, [.ref a0, .ref a1, .ref a2, .int 0, .int 0, .ref a5, .ref a6, .ref a7, .ref a8, .ref a9, .ref a10, .ref a11, .ref a12, .ref a13, .null, .null, .int 0, .null, .int 0])), (a0, .inl (cI, 4, .inl (fun _ => 0))), (a1, .inl (cI, 4, .inl (fun _ => 0))), (a2, .inl (cI, 4, .inl (fun _ => 0))), (a5, .inl (cZ, 96, .inl (fun _ => 0))), (a6, .inl (cI, 96, .inl (fun _ => 0))), (a7, .inl (cI, 96, .inl (fun _ => 0))), (a8, .inl (cI, 96, .inl (fun _ => 0))), (a9, .inl (cI, 96, .inl (fun _ => 0))), (a10, .inl (cZ, 96, .inl (fun _ => 0))), (a11, .inl (cI, 96, .inl (fun _ => 0))), (a12, .inl (cI, 96, .inl (fun _ => 0))), (a13, .inl (cI, 4, .inl (fun _ => 0))), (a14, .inl (cI, 4, .inl (fun _ => 0)))] := hD
  refine va_putF (D := D) (ci := 0) (v := .ref a14) (ty := .array .int) (C := RX0) (T := TX0) (N := 19) C.1 C.2.1 hts in_X0 tyX0 tyX0_ok nmX0 hown hK hP hD hS 0 rfl rfl 14 (by decide) (hts _ q51) (fun _ h9 => h9) rfl hin rfl (by decide +kernel) rfl rfl (Nat.le_of_ble_eq_true rfl) dX0_init_100 (fun H locs hP hD hS => ?_)
  have hP : va_P D os_cls [(h, .inr (0, [.ref a0, .ref a1, .ref a2, .int 0, .int 0, .ref a5, .ref a6, .ref a7, .ref a8, .ref a9, .ref a10, .ref a11, .ref a12, .ref a13, .ref a14, .null, .int 0, .null, .int 0])), (a0, .inl (cI, 4, .inl (fun _ => 0))), (a1, .inl (cI, 4, .inl (fun _ => 0))), (a2, .inl (cI, 4, .inl (fun _ => 0))), (a5, .inl (cZ, 96, .inl (fun _ => 0))), (a6, .inl (cI, 96, .inl (fun _ => 0))), (a7, .inl (cI, 96, .inl (fun _ => 0))), (a8, .inl (cI, 96, .inl (fun _ => 0))), (a9, .inl (cI, 96, .inl (fun _ => 0))), (a10, .inl (cZ, 96, .inl (fun _ => 0))), (a11, .inl (cI, 96, .inl (fun _ => 0))), (a12, .inl (cI, 96, .inl (fun _ => 0))), (a13, .inl (cI, 4, .inl (fun _ => 0))), (a14, .inl (cI, 4, .inl (fun _ => 0)))] H := hP
  have hD : va_D A [(h, .inr (0, [.ref a0, .ref a1, .ref a2, .int 0, .int 0, .ref a5, .ref a6, .ref a7, .ref a8, .ref a9, .ref a10, .ref a11, .ref a12, .ref a13, .ref a14, .null, .int 0, .null, .int 0])), (a0, .inl (cI, 4, .inl (fun _ => 0))), (a1, .inl (cI, 4, .inl (fun _ => 0))), (a2, .inl (cI, 4, .inl (fun _ => 0))), (a5, .inl (cZ, 96, .inl (fun _ => 0))), (a6, .inl (cI, 96, .inl (fun _ => 0))), (a7, .inl (cI, 96, .inl (fun _ => 0))), (a8, .inl (cI, 96, .inl (fun _ => 0))), (a9, .inl (cI, 96, .inl (fun _ => 0))), (a10, .inl (cZ, 96, .inl (fun _ => 0))), (a11, .inl (cI, 96, .inl (fun _ => 0))), (a12, .inl (cI, 96, .inl (fun _ => 0))), (a13, .inl (cI, 4, .inl (fun _ => 0))), (a14, .inl (cI, 4, .inl (fun _ => 0)))] := hD
  refine lv_aload_n C.1 C.2.1 dX0_init_103 rfl (lv_at hl 0 rfl) ?_
  refine lv_iconst (v := 4) C.1 C.2.1 dX0_init_104 (by decide) ?_
  refine os_newI (N' := 4) C hP hD hS hA (by decide) (by decide) (by decide) (Nat.le_of_ble_eq_true rfl) (Nat.le_of_ble_eq_true rfl) dX0_init_105 (fun a15 H hP hD hS => ?_)
  refine W.widen (k := 14) (n := 792) (Nat.le_of_ble_eq_true rfl) (Nat.le_of_ble_eq_true rfl) ?_
  have hP : va_P D os_cls [(h, .inr (0, [.ref a0, .ref a1, .ref a2, .int 0, .int 0, .ref a5, .ref a6, .ref a7, .ref a8, .ref a9, .ref a10, .ref a11, .ref a12, .ref a13, .ref a14, .null, .int 0, .null, .int 0])), (a0, .inl (cI, 4, .inl (fun _ => 0))), (a1, .inl (cI, 4, .inl (fun _ => 0))), (a2, .inl (cI, 4, .inl (fun _ => 0))), (a5, .inl (cZ, 96, .inl (fun _ => 0))), (a6, .inl (cI, 96, .inl (fun _ => 0))), (a7, .inl (cI, 96, .inl (fun _ => 0))), (a8, .inl (cI, 96, .inl (fun _ => 0))), (a9, .inl (cI, 96, .inl (fun _ => 0))), (a10, .inl (cZ, 96, .inl (fun _ => 0))), (a11, .inl (cI, 96, .inl (fun _ => 0))), (a12, .inl (cI, 96, .inl (fun _ => 0))), (a13, .inl (cI, 4, .inl (fun _ => 0))), (a14, .inl (cI, 4, .inl (fun _ => 0))), (a15, .inl (cI, 4, .inl (fun _ => 0)))] H := hP
  have hD : va_D A [(h, .inr (0, [.ref a0, .ref a1, .ref a2, .int 0, .int 0, .ref a5, .ref a6, .ref a7, .ref a8, .ref a9, .ref a10, .ref a11, .ref a12, .ref a13, .ref a14, .null, .int 0, .null, .int 0])), (a0, .inl (cI, 4, .inl (fun _ => 0))), (a1, .inl (cI, 4, .inl (fun _ => 0))), (a2, .inl (cI, 4, .inl (fun _ => 0))), (a5, .inl (cZ, 96, .inl (fun _ => 0))), (a6, .inl (cI, 96, .inl (fun _ => 0))), (a7, .inl (cI, 96, .inl (fun _ => 0))), (a8, .inl (cI, 96, .inl (fun _ => 0))), (a9, .inl (cI, 96, .inl (fun _ => 0))), (a10, .inl (cZ, 96, .inl (fun _ => 0))), (a11, .inl (cI, 96, .inl (fun _ => 0))), (a12, .inl (cI, 96, .inl (fun _ => 0))), (a13, .inl (cI, 4, .inl (fun _ => 0))), (a14, .inl (cI, 4, .inl (fun _ => 0))), (a15, .inl (cI, 4, .inl (fun _ => 0)))] := hD
  refine va_putF (D := D) (ci := 0) (v := .ref a15) (ty := .array .int) (C := RX0) (T := TX0) (N := 19) C.1 C.2.1 hts in_X0 tyX0 tyX0_ok nmX0 hown hK hP hD hS 0 rfl rfl 15 (by decide) (hts _ q52) (fun _ h9 => h9) rfl hin rfl (by decide +kernel) rfl rfl (Nat.le_of_ble_eq_true rfl) dX0_init_107 (fun H locs hP hD hS => ?_)
  have hP : va_P D os_cls [(h, .inr (0, [.ref a0, .ref a1, .ref a2, .int 0, .int 0, .ref a5, .ref a6, .ref a7, .ref a8, .ref a9, .ref a10, .ref a11, .ref a12, .ref a13, .ref a14, .ref a15, .int 0, .null, .int 0])), (a0, .inl (cI, 4, .inl (fun _ => 0))), (a1, .inl (cI, 4, .inl (fun _ => 0))), (a2, .inl (cI, 4, .inl (fun _ => 0))), (a5, .inl (cZ, 96, .inl (fun _ => 0))), (a6, .inl (cI, 96, .inl (fun _ => 0))), (a7, .inl (cI, 96, .inl (fun _ => 0))), (a8, .inl (cI, 96, .inl (fun _ => 0))), (a9, .inl (cI, 96, .inl (fun _ => 0))), (a10, .inl (cZ, 96, .inl (fun _ => 0))), (a11, .inl (cI, 96, .inl (fun _ => 0))), (a12, .inl (cI, 96, .inl (fun _ => 0))), (a13, .inl (cI, 4, .inl (fun _ => 0))), (a14, .inl (cI, 4, .inl (fun _ => 0))), (a15, .inl (cI, 4, .inl (fun _ => 0)))] H := hP
  have hD : va_D A [(h, .inr (0, [.ref a0, .ref a1, .ref a2, .int 0, .int 0, .ref a5, .ref a6, .ref a7, .ref a8, .ref a9, .ref a10, .ref a11, .ref a12, .ref a13, .ref a14, .ref a15, .int 0, .null, .int 0])), (a0, .inl (cI, 4, .inl (fun _ => 0))), (a1, .inl (cI, 4, .inl (fun _ => 0))), (a2, .inl (cI, 4, .inl (fun _ => 0))), (a5, .inl (cZ, 96, .inl (fun _ => 0))), (a6, .inl (cI, 96, .inl (fun _ => 0))), (a7, .inl (cI, 96, .inl (fun _ => 0))), (a8, .inl (cI, 96, .inl (fun _ => 0))), (a9, .inl (cI, 96, .inl (fun _ => 0))), (a10, .inl (cZ, 96, .inl (fun _ => 0))), (a11, .inl (cI, 96, .inl (fun _ => 0))), (a12, .inl (cI, 96, .inl (fun _ => 0))), (a13, .inl (cI, 4, .inl (fun _ => 0))), (a14, .inl (cI, 4, .inl (fun _ => 0))), (a15, .inl (cI, 4, .inl (fun _ => 0)))] := hD
  refine lv_aload_n C.1 C.2.1 dX0_init_110 rfl (lv_at hl 0 rfl) ?_
  refine lv_bipush (v := 96) C.1 C.2.1 dX0_init_111 (by decide) ?_
  refine os_newI (N' := 96) C hP hD hS hA (by decide) (by decide) (by decide) (Nat.le_of_ble_eq_true rfl) (Nat.le_of_ble_eq_true rfl) dX0_init_113 (fun a17 H hP hD hS => ?_)
  refine W.widen (k := 15) (n := 888) (Nat.le_of_ble_eq_true rfl) (Nat.le_of_ble_eq_true rfl) ?_
  have hP : va_P D os_cls [(h, .inr (0, [.ref a0, .ref a1, .ref a2, .int 0, .int 0, .ref a5, .ref a6, .ref a7, .ref a8, .ref a9, .ref a10, .ref a11, .ref a12, .ref a13, .ref a14, .ref a15, .int 0, .null, .int 0])), (a0, .inl (cI, 4, .inl (fun _ => 0))), (a1, .inl (cI, 4, .inl (fun _ => 0))), (a2, .inl (cI, 4, .inl (fun _ => 0))), (a5, .inl (cZ, 96, .inl (fun _ => 0))), (a6, .inl (cI, 96, .inl (fun _ => 0))), (a7, .inl (cI, 96, .inl (fun _ => 0))), (a8, .inl (cI, 96, .inl (fun _ => 0))), (a9, .inl (cI, 96, .inl (fun _ => 0))), (a10, .inl (cZ, 96, .inl (fun _ => 0))), (a11, .inl (cI, 96, .inl (fun _ => 0))), (a12, .inl (cI, 96, .inl (fun _ => 0))), (a13, .inl (cI, 4, .inl (fun _ => 0))), (a14, .inl (cI, 4, .inl (fun _ => 0))), (a15, .inl (cI, 4, .inl (fun _ => 0))), (a17, .inl (cI, 96, .inl (fun _ => 0)))] H := hP
  have hD : va_D A [(h, .inr (0, [.ref a0, .ref a1, .ref a2, .int 0, .int 0, .ref a5, .ref a6, .ref a7, .ref a8, .ref a9, .ref a10, .ref a11, .ref a12, .ref a13, .ref a14, .ref a15, .int 0, .null, .int 0])), (a0, .inl (cI, 4, .inl (fun _ => 0))), (a1, .inl (cI, 4, .inl (fun _ => 0))), (a2, .inl (cI, 4, .inl (fun _ => 0))), (a5, .inl (cZ, 96, .inl (fun _ => 0))), (a6, .inl (cI, 96, .inl (fun _ => 0))), (a7, .inl (cI, 96, .inl (fun _ => 0))), (a8, .inl (cI, 96, .inl (fun _ => 0))), (a9, .inl (cI, 96, .inl (fun _ => 0))), (a10, .inl (cZ, 96, .inl (fun _ => 0))), (a11, .inl (cI, 96, .inl (fun _ => 0))), (a12, .inl (cI, 96, .inl (fun _ => 0))), (a13, .inl (cI, 4, .inl (fun _ => 0))), (a14, .inl (cI, 4, .inl (fun _ => 0))), (a15, .inl (cI, 4, .inl (fun _ => 0))), (a17, .inl (cI, 96, .inl (fun _ => 0)))] := hD
  refine va_putF (D := D) (ci := 0) (v := .ref a17) (ty := .array .int) (C := RX0) (T := TX0) (N := 19) C.1 C.2.1 hts in_X0 tyX0 tyX0_ok nmX0 hown hK hP hD hS 0 rfl rfl 17 (by decide) (hts _ q54) (fun _ h9 => h9) rfl hin rfl (by decide +kernel) rfl rfl (Nat.le_of_ble_eq_true rfl) dX0_init_115 (fun H locs hP hD hS => ?_)
  have hP : va_P D os_cls [(h, .inr (0, [.ref a0, .ref a1, .ref a2, .int 0, .int 0, .ref a5, .ref a6, .ref a7, .ref a8, .ref a9, .ref a10, .ref a11, .ref a12, .ref a13, .ref a14, .ref a15, .int 0, .ref a17, .int 0])), (a0, .inl (cI, 4, .inl (fun _ => 0))), (a1, .inl (cI, 4, .inl (fun _ => 0))), (a2, .inl (cI, 4, .inl (fun _ => 0))), (a5, .inl (cZ, 96, .inl (fun _ => 0))), (a6, .inl (cI, 96, .inl (fun _ => 0))), (a7, .inl (cI, 96, .inl (fun _ => 0))), (a8, .inl (cI, 96, .inl (fun _ => 0))), (a9, .inl (cI, 96, .inl (fun _ => 0))), (a10, .inl (cZ, 96, .inl (fun _ => 0))), (a11, .inl (cI, 96, .inl (fun _ => 0))), (a12, .inl (cI, 96, .inl (fun _ => 0))), (a13, .inl (cI, 4, .inl (fun _ => 0))), (a14, .inl (cI, 4, .inl (fun _ => 0))), (a15, .inl (cI, 4, .inl (fun _ => 0))), (a17, .inl (cI, 96, .inl (fun _ => 0)))] H := hP
  have hD : va_D A [(h, .inr (0, [.ref a0, .ref a1, .ref a2, .int 0, .int 0, .ref a5, .ref a6, .ref a7, .ref a8, .ref a9, .ref a10, .ref a11, .ref a12, .ref a13, .ref a14, .ref a15, .int 0, .ref a17, .int 0])), (a0, .inl (cI, 4, .inl (fun _ => 0))), (a1, .inl (cI, 4, .inl (fun _ => 0))), (a2, .inl (cI, 4, .inl (fun _ => 0))), (a5, .inl (cZ, 96, .inl (fun _ => 0))), (a6, .inl (cI, 96, .inl (fun _ => 0))), (a7, .inl (cI, 96, .inl (fun _ => 0))), (a8, .inl (cI, 96, .inl (fun _ => 0))), (a9, .inl (cI, 96, .inl (fun _ => 0))), (a10, .inl (cZ, 96, .inl (fun _ => 0))), (a11, .inl (cI, 96, .inl (fun _ => 0))), (a12, .inl (cI, 96, .inl (fun _ => 0))), (a13, .inl (cI, 4, .inl (fun _ => 0))), (a14, .inl (cI, 4, .inl (fun _ => 0))), (a15, .inl (cI, 4, .inl (fun _ => 0))), (a17, .inl (cI, 96, .inl (fun _ => 0)))] := hD
  obtain ⟨ad, had⟩ : ∃ ad : Nat → Nat, ad = fun k => ([a0, a1, a2, 0, 0, a5, a6, a7, a8, a9, a10, a11, a12, a13, a14, a15, 0, a17, 0] : List Nat).getD k 0 := ⟨_, rfl⟩
  have hO : ox_P D cI cZ h ad os_zero H := by
    subst had
    exact ⟨hP, ox_self (σ := os_zero) hD⟩
  have hAO : ∀ q, ox_A h ad q → A q := by
    subst had
    intro q hq
    have e : ([(h, .inr (0, [.ref a0, .ref a1, .ref a2, .int 0, .int 0, .ref a5, .ref a6, .ref a7, .ref a8, .ref a9, .ref a10, .ref a11, .ref a12, .ref a13, .ref a14, .ref a15, .int 0, .ref a17, .int 0])), (a0, .inl (cI, 4, .inl (fun _ => 0))), (a1, .inl (cI, 4, .inl (fun _ => 0))), (a2, .inl (cI, 4, .inl (fun _ => 0))), (a5, .inl (cZ, 96, .inl (fun _ => 0))), (a6, .inl (cI, 96, .inl (fun _ => 0))), (a7, .inl (cI, 96, .inl (fun _ => 0))), (a8, .inl (cI, 96, .inl (fun _ => 0))), (a9, .inl (cI, 96, .inl (fun _ => 0))), (a10, .inl (cZ, 96, .inl (fun _ => 0))), (a11, .inl (cI, 96, .inl (fun _ => 0))), (a12, .inl (cI, 96, .inl (fun _ => 0))), (a13, .inl (cI, 4, .inl (fun _ => 0))), (a14, .inl (cI, 4, .inl (fun _ => 0))), (a15, .inl (cI, 4, .inl (fun _ => 0))), (a17, .inl (cI, 96, .inl (fun _ => 0)))] : va_W).map Prod.fst = ox_L h (fun k => ([a0, a1, a2, 0, 0, a5, a6, a7, a8, a9, a10, a11, a12, a13, a14, a15, 0, a17, 0] : List Nat).getD k 0) := rfl
    have hq : q ∈ ox_L h (fun k => ([a0, a1, a2, 0, 0, a5, a6, a7, a8, a9, a10, a11, a12, a13, a14, a15, 0, a17, 0] : List Nat).getD k 0) := hq
    rw [← e] at hq
    obtain ⟨x, hx, rfl⟩ := List.mem_map.mp hq
    obtain ⟨i, hi⟩ := List.getElem?_of_mem hx
    exact hD.2 i x hi
  clear hP hD had
  have loop : ∀ (n i : Nat), i + n = 4 → ∀ (H : Heap) (locs : List Loc), ox_P D cI cZ h ad (os_ini os_zero i) H → va_S A s.heap H locs → ∀ ls : Array Slot, lv_has ls 2 [(0, .ref h), (1, .int (nI i))] → W pg l e ox_rm s m ([.ref h] : List Value).toArray below meth c H locs 15 888 (MQ below (va_Qv (fun ad : Nat → Nat => ∀ q ∈ ox_L h ad, q = h ∨ s.heap.size ≤ q) (fun ad t => ox_W D cI cZ h ad os_start t) A) ([.ref h] : List Value).toArray s 15 888 A) (F0 m 120 ls []) := by
    intro n
    induction n with
    | zero =>
      intro i hi H locs hO hS ls hl
      obtain rfl : i = 4 := by omega
      refine lv_iload_n C.1 C.2.1 dX0_init_120 rfl (lv_at hl 1 rfl) ?_
      refine lv_iconst (v := 4) C.1 C.2.1 dX0_init_121 (by decide) ?_
      refine lv_icmp_ge (tgt := 146) C.1 C.2.1 dX0_init_122 (by decide) (fun c122 => ?_) (fun c122 => ?_)
      · have c122 := Int32.not_lt.mpr c122
        refine lv_aload_n C.1 C.2.1 dX0_init_146 rfl (lv_at hl 0 rfl) ?_
        refine ox_cv0 (As := []) (rest := []) C (mx_clear l D cI cZ h ad (os_ini os_zero 4)) (cwV 0 C.2.2.2.2.1 (lw_V q33 q34 q35 q23 q36) rfl rfl rfl (by decide +kernel) ⟨Nat.le_of_ble_eq_true rfl, Nat.le_of_ble_eq_true rfl⟩) hO hS hAO rfl rfl hl.1 (Nat.le_of_ble_eq_true rfl) dX0_init_147 ⟨Nat.le_of_ble_eq_true rfl, Nat.le_of_ble_eq_true rfl⟩ (fun H locs hO hS _ => ?_)
        exact W.vret C.1 C.2.1 hr (fun t ht hW => ⟨⟨ad, rfl, fun q hq => by have := hAO q hq; rw [← hAe] at this; exact this, by rw [ht]; exact hO, va_K.moved hW.alike C.2.2.2.2.2⟩, hS.F ht⟩) hS.2.2 dX0_init_150 hlk
      · have c122 := Int32.not_le.mp c122
        exact absurd c122 (by decide)
    | succ n ih =>
      intro i hi H locs hO hS ls hl
      refine lv_iload_n C.1 C.2.1 dX0_init_120 rfl (lv_at hl 1 rfl) ?_
      refine lv_iconst (v := 4) C.1 C.2.1 dX0_init_121 (by decide) ?_
      refine lv_icmp_ge (tgt := 146) C.1 C.2.1 dX0_init_122 (by decide) (fun c1 => ?_) (fun c1 => ?_)
      · exact absurd (nI_lt (a := i) (b := 4) (by omega) (by omega)) (Int32.not_lt.mpr c1)
      · refine ox_g1 C hO (lv_at hl 0 rfl) dX0_init_125 dX0_init_126 ?_
        refine lv_iload_n C.1 C.2.1 dX0_init_129 rfl (lv_at hl 1 rfl) ?_
        refine lv_iconst (v := 1) C.1 C.2.1 dX0_init_130 (by decide) ?_
        refine ox_t1 (j := i) C hO hAO hS (nI_clamp (by omega)) (vp_in_nI (by omega) (by omega)) dX0_init_131 (fun H locs hO hS => ?_)
        refine ox_g2 C hO (lv_at hl 0 rfl) dX0_init_132 dX0_init_133 ?_
        refine lv_iload_n C.1 C.2.1 dX0_init_136 rfl (lv_at hl 1 rfl) ?_
        refine lv_bipush (v := 15) C.1 C.2.1 dX0_init_137 (by decide) ?_
        refine ox_t2 (j := i) C hO hAO hS (nI_clamp (by omega)) (vp_in_nI (by omega) (by omega)) dX0_init_139 (fun H locs hO hS => ?_)
        refine lv_iinc (v := nI (i + 1)) (lv' := [(1, .int (nI (i + 1))), (0, .ref h)]) C.1 C.2.1 dX0_init_140 hl (k := 1) rfl (nI_1 i) (by decide) rfl (fun ls hl => ?_)
        refine lv_goto (tgt := 120) C.1 C.2.1 dX0_init_143 (by decide) ?_
        exact ih (i + 1) (by omega) H locs hO hS ls (lv_sub hl [1, 0] rfl)
  refine lv_iconst (v := 0) C.1 C.2.1 dX0_init_118 (by decide) ?_
  refine lv_istore_n (lv' := [(1, .int 0), (0, .ref h)]) C.1 C.2.1 dX0_init_119 rfl hl (by decide) rfl (fun ls hl => ?_)
  exact loop 4 0 rfl H locs hO hS ls (lv_sub hl [1, 0] rfl)
abbrev om_blank : List Value := [.null, .null, .null, .int 0, .int 0, .int 0, .null, .null, .null, .null, .null, .null, .null, .int 0]
abbrev om_rm : Room := { frames := 1, cells := 10, slots := 500, locals := 12 }
set_option maxHeartbeats 4000000 in
theorem mm_init (l : Launch) (D : va_G) (cI cZ : ClassId) (h sz : Nat) : Met l yX1_init (ws_ yX1_init cX1_init 2 none) om_rm (va_Pc [.ref h] (fun U => U.heap.size = sz ∧ va_P D os_cls [(h, .inr (1, om_blank))] U.heap ∧ va_K D os_cls (os_tys cI cZ) U)) (va_Qv (fun ad : Nat → Nat => ∀ q ∈ om_L h ad, q = h ∨ sz ≤ q) (fun ad t => om_W D cI cZ h ad om_start t) (fun q : Nat => q = h ∨ sz ≤ q)) 10 500 (fun q : Nat => q = h ∨ sz ≤ q) := by
  refine Met.ofW (cc := cX1_init) (maxL := 2) (ret := none) (by decide) rfl ?_
  intro pg e s m args below meth c s₁ B hml hv
  obtain ⟨rfl, hsz, hP, hK⟩ := hv
  subst hsz
  have hts := atoms_spec (ws := ws_ yX1_init cX1_init 2 none) B.pre
  have hts : ∀ w ∈ lw_all, w.before _ s = true := fun w h => hts w (List.mem_cons_of_mem _ h)
  have hown : s.vm.findClass RX1 = some m.cls := findClass_of_methodNamed B.named
  have hlk := B.notSynchronized
  have hin : meth.name = "<init>" := (name_of_methodNamed B.named B.method).1
  have hr := B.returns
  have C : os_cx RX1 pg s m ([.ref h] : List Value).toArray c cX1_init 2 D cI cZ := ⟨B.exec, B.bytes, hml, hown, hts, hK⟩
  have hA : ∀ q, s.heap.size ≤ q → (fun q : Nat => q = h ∨ s.heap.size ≤ q) q := fun q h => Or.inr h
  generalize hAe : (fun q : Nat => q = h ∨ s.heap.size ≤ q) = A at hA ⊢
  have hAh : A h := by rw [← hAe]; exact Or.inl rfl
  have hD : va_D A [(h, .inr (1, [.null, .null, .null, .int 0, .int 0, .int 0, .null, .null, .null, .null, .null, .null, .null, .int 0]))] := ⟨fun i j p q hi hj _ => by
    have a := (List.getElem?_eq_some_iff.mp hi).1
    have b := (List.getElem?_eq_some_iff.mp hj).1
    simp only [List.length_cons, List.length_nil] at a b
    omega, fun k q hk => by
    have a := (List.getElem?_eq_some_iff.mp hk).1
    simp only [List.length_cons, List.length_nil] at a
    obtain rfl : k = 0 := by omega
    cases hk
    exact hAh⟩
  have hP : va_P D os_cls [(h, .inr (1, [.null, .null, .null, .int 0, .int 0, .int 0, .null, .null, .null, .null, .null, .null, .null, .int 0]))] s.heap := hP
  have hS : va_S A s.heap s.heap [] := va_S.rf
  have hl := lv_entry ([.ref h]) (n := 2) (Nat.le_of_ble_eq_true rfl)
  rw [lg_entry_eq]
  generalize (lg_sl ([.ref h]) ++ List.replicate (2 - (lg_sl ([.ref h])).length) Slot.unset).toArray = ls at hl ⊢
  have hl : lv_has ls 2 [(0, .ref h)] := hl
  refine lv_aload_n C.1 C.2.1 dX1_init_0 rfl (lv_at hl 0 rfl) ?_
  refine W.objInit C.1 C.2.1 hown (hts _ q198) (hts _ q31) (hts _ q32) rfl (by rw [hml]; exact hl.1) rfl dX1_init_1 (Nat.le_of_ble_eq_true rfl) (Nat.le_of_ble_eq_true rfl) ?_
  refine W.eq (g2 := F0 m 4 ls []) rfl ?_
  refine lv_aload_n C.1 C.2.1 dX1_init_4 rfl (lv_at hl 0 rfl) ?_
  refine lv_iconst (v := 4) C.1 C.2.1 dX1_init_5 (by decide) ?_
  refine os_newI (N' := 4) C hP hD hS hA (by decide) (by decide) (by decide) (Nat.le_of_ble_eq_true rfl) (Nat.le_of_ble_eq_true rfl) dX1_init_6 (fun a0 H hP hD hS => ?_)
  refine W.widen (k := 1) (n := 4) (Nat.le_of_ble_eq_true rfl) (Nat.le_of_ble_eq_true rfl) ?_
  have hP : va_P D os_cls [(h, .inr (1, [.null, .null, .null, .int 0, .int 0, .int 0, .null, .null, .null, .null, .null, .null, .null, .int 0])), (a0, .inl (cI, 4, .inl (fun _ => 0)))] H := hP
  have hD : va_D A [(h, .inr (1, [.null, .null, .null, .int 0, .int 0, .int 0, .null, .null, .null, .null, .null, .null, .null, .int 0])), (a0, .inl (cI, 4, .inl (fun _ => 0)))] := hD
  refine va_putF (D := D) (ci := 1) (v := .ref a0) (ty := .array .int) (C := RX1) (T := TX1) (N := 14) C.1 C.2.1 hts in_X1 tyX1 tyX1_ok nmX1 hown hK hP hD hS 0 rfl rfl 0 (by decide) (hts _ q199) (fun _ h9 => h9) rfl hin rfl (by decide +kernel) rfl rfl (Nat.le_of_ble_eq_true rfl) dX1_init_8 (fun H locs hP hD hS => ?_)
  have hP : va_P D os_cls [(h, .inr (1, [.ref a0, .null, .null, .int 0, .int 0, .int 0, .null, .null, .null, .null, .null, .null, .null, .int 0])), (a0, .inl (cI, 4, .inl (fun _ => 0)))] H := hP
  have hD : va_D A [(h, .inr (1, [.ref a0, .null, .null, .int 0, .int 0, .int 0, .null, .null, .null, .null, .null, .null, .null, .int 0])), (a0, .inl (cI, 4, .inl (fun _ => 0)))] := hD
  refine lv_aload_n C.1 C.2.1 dX1_init_11 rfl (lv_at hl 0 rfl) ?_
  refine lv_iconst (v := 4) C.1 C.2.1 dX1_init_12 (by decide) ?_
  refine os_newI (N' := 4) C hP hD hS hA (by decide) (by decide) (by decide) (Nat.le_of_ble_eq_true rfl) (Nat.le_of_ble_eq_true rfl) dX1_init_13 (fun a1 H hP hD hS => ?_)
  refine W.widen (k := 2) (n := 8) (Nat.le_of_ble_eq_true rfl) (Nat.le_of_ble_eq_true rfl) ?_
  have hP : va_P D os_cls [(h, .inr (1, [.ref a0, .null, .null, .int 0, .int 0, .int 0, .null, .null, .null, .null, .null, .null, .null, .int 0])), (a0, .inl (cI, 4, .inl (fun _ => 0))), (a1, .inl (cI, 4, .inl (fun _ => 0)))] H := hP
  have hD : va_D A [(h, .inr (1, [.ref a0, .null, .null, .int 0, .int 0, .int 0, .null, .null, .null, .null, .null, .null, .null, .int 0])), (a0, .inl (cI, 4, .inl (fun _ => 0))), (a1, .inl (cI, 4, .inl (fun _ => 0)))] := hD
  refine va_putF (D := D) (ci := 1) (v := .ref a1) (ty := .array .int) (C := RX1) (T := TX1) (N := 14) C.1 C.2.1 hts in_X1 tyX1 tyX1_ok nmX1 hown hK hP hD hS 0 rfl rfl 1 (by decide) (hts _ q200) (fun _ h9 => h9) rfl hin rfl (by decide +kernel) rfl rfl (Nat.le_of_ble_eq_true rfl) dX1_init_15 (fun H locs hP hD hS => ?_)
  have hP : va_P D os_cls [(h, .inr (1, [.ref a0, .ref a1, .null, .int 0, .int 0, .int 0, .null, .null, .null, .null, .null, .null, .null, .int 0])), (a0, .inl (cI, 4, .inl (fun _ => 0))), (a1, .inl (cI, 4, .inl (fun _ => 0)))] H := hP
  have hD : va_D A [(h, .inr (1, [.ref a0, .ref a1, .null, .int 0, .int 0, .int 0, .null, .null, .null, .null, .null, .null, .null, .int 0])), (a0, .inl (cI, 4, .inl (fun _ => 0))), (a1, .inl (cI, 4, .inl (fun _ => 0)))] := hD
  refine lv_aload_n C.1 C.2.1 dX1_init_18 rfl (lv_at hl 0 rfl) ?_
  refine lv_iconst (v := 4) C.1 C.2.1 dX1_init_19 (by decide) ?_
  refine os_newI (N' := 4) C hP hD hS hA (by decide) (by decide) (by decide) (Nat.le_of_ble_eq_true rfl) (Nat.le_of_ble_eq_true rfl) dX1_init_20 (fun a2 H hP hD hS => ?_)
  refine W.widen (k := 3) (n := 12) (Nat.le_of_ble_eq_true rfl) (Nat.le_of_ble_eq_true rfl) ?_
  have hP : va_P D os_cls [(h, .inr (1, [.ref a0, .ref a1, .null, .int 0, .int 0, .int 0, .null, .null, .null, .null, .null, .null, .null, .int 0])), (a0, .inl (cI, 4, .inl (fun _ => 0))), (a1, .inl (cI, 4, .inl (fun _ => 0))), (a2, .inl (cI, 4, .inl (fun _ => 0)))] H := hP
  have hD : va_D A [(h, .inr (1, [.ref a0, .ref a1, .null, .int 0, .int 0, .int 0, .null, .null, .null, .null, .null, .null, .null, .int 0])), (a0, .inl (cI, 4, .inl (fun _ => 0))), (a1, .inl (cI, 4, .inl (fun _ => 0))), (a2, .inl (cI, 4, .inl (fun _ => 0)))] := hD
  refine va_putF (D := D) (ci := 1) (v := .ref a2) (ty := .array .int) (C := RX1) (T := TX1) (N := 14) C.1 C.2.1 hts in_X1 tyX1 tyX1_ok nmX1 hown hK hP hD hS 0 rfl rfl 2 (by decide) (hts _ q201) (fun _ h9 => h9) rfl hin rfl (by decide +kernel) rfl rfl (Nat.le_of_ble_eq_true rfl) dX1_init_22 (fun H locs hP hD hS => ?_)
  have hP : va_P D os_cls [(h, .inr (1, [.ref a0, .ref a1, .ref a2, .int 0, .int 0, .int 0, .null, .null, .null, .null, .null, .null, .null, .int 0])), (a0, .inl (cI, 4, .inl (fun _ => 0))), (a1, .inl (cI, 4, .inl (fun _ => 0))), (a2, .inl (cI, 4, .inl (fun _ => 0)))] H := hP
  have hD : va_D A [(h, .inr (1, [.ref a0, .ref a1, .ref a2, .int 0, .int 0, .int 0, .null, .null, .null, .null, .null, .null, .null, .int 0])), (a0, .inl (cI, 4, .inl (fun _ => 0))), (a1, .inl (cI, 4, .inl (fun _ => 0))), (a2, .inl (cI, 4, .inl (fun _ => 0)))] := hD
  refine lv_aload_n C.1 C.2.1 dX1_init_25 rfl (lv_at hl 0 rfl) ?_
  refine lv_bipush (v := 96) C.1 C.2.1 dX1_init_26 (by decide) ?_
  refine os_newI (N' := 96) C hP hD hS hA (by decide) (by decide) (by decide) (Nat.le_of_ble_eq_true rfl) (Nat.le_of_ble_eq_true rfl) dX1_init_28 (fun a6 H hP hD hS => ?_)
  refine W.widen (k := 4) (n := 108) (Nat.le_of_ble_eq_true rfl) (Nat.le_of_ble_eq_true rfl) ?_
  have hP : va_P D os_cls [(h, .inr (1, [.ref a0, .ref a1, .ref a2, .int 0, .int 0, .int 0, .null, .null, .null, .null, .null, .null, .null, .int 0])), (a0, .inl (cI, 4, .inl (fun _ => 0))), (a1, .inl (cI, 4, .inl (fun _ => 0))), (a2, .inl (cI, 4, .inl (fun _ => 0))), (a6, .inl (cI, 96, .inl (fun _ => 0)))] H := hP
  have hD : va_D A [(h, .inr (1, [.ref a0, .ref a1, .ref a2, .int 0, .int 0, .int 0, .null, .null, .null, .null, .null, .null, .null, .int 0])), (a0, .inl (cI, 4, .inl (fun _ => 0))), (a1, .inl (cI, 4, .inl (fun _ => 0))), (a2, .inl (cI, 4, .inl (fun _ => 0))), (a6, .inl (cI, 96, .inl (fun _ => 0)))] := hD
  refine va_putF (D := D) (ci := 1) (v := .ref a6) (ty := .array .int) (C := RX1) (T := TX1) (N := 14) C.1 C.2.1 hts in_X1 tyX1 tyX1_ok nmX1 hown hK hP hD hS 0 rfl rfl 6 (by decide) (hts _ q205) (fun _ h9 => h9) rfl hin rfl (by decide +kernel) rfl rfl (Nat.le_of_ble_eq_true rfl) dX1_init_30 (fun H locs hP hD hS => ?_)
  have hP : va_P D os_cls [(h, .inr (1, [.ref a0, .ref a1, .ref a2, .int 0, .int 0, .int 0, .ref a6, .null, .null, .null, .null, .null, .null, .int 0])), (a0, .inl (cI, 4, .inl (fun _ => 0))), (a1, .inl (cI, 4, .inl (fun _ => 0))), (a2, .inl (cI, 4, .inl (fun _ => 0))), (a6, .inl (cI, 96, .inl (fun _ => 0)))] H := hP
  have hD : va_D A [(h, .inr (1, [.ref a0, .ref a1, .ref a2, .int 0, .int 0, .int 0, .ref a6, .null, .null, .null, .null, .null, .null, .int 0])), (a0, .inl (cI, 4, .inl (fun _ => 0))), (a1, .inl (cI, 4, .inl (fun _ => 0))), (a2, .inl (cI, 4, .inl (fun _ => 0))), (a6, .inl (cI, 96, .inl (fun _ => 0)))] := hD
  refine lv_aload_n C.1 C.2.1 dX1_init_33 rfl (lv_at hl 0 rfl) ?_
  refine lv_bipush (v := 96) C.1 C.2.1 dX1_init_34 (by decide) ?_
  refine os_newI (N' := 96) C hP hD hS hA (by decide) (by decide) (by decide) (Nat.le_of_ble_eq_true rfl) (Nat.le_of_ble_eq_true rfl) dX1_init_36 (fun a7 H hP hD hS => ?_)
  refine W.widen (k := 5) (n := 204) (Nat.le_of_ble_eq_true rfl) (Nat.le_of_ble_eq_true rfl) ?_
  have hP : va_P D os_cls [(h, .inr (1, [.ref a0, .ref a1, .ref a2, .int 0, .int 0, .int 0, .ref a6, .null, .null, .null, .null, .null, .null, .int 0])), (a0, .inl (cI, 4, .inl (fun _ => 0))), (a1, .inl (cI, 4, .inl (fun _ => 0))), (a2, .inl (cI, 4, .inl (fun _ => 0))), (a6, .inl (cI, 96, .inl (fun _ => 0))), (a7, .inl (cI, 96, .inl (fun _ => 0)))] H := hP
  have hD : va_D A [(h, .inr (1, [.ref a0, .ref a1, .ref a2, .int 0, .int 0, .int 0, .ref a6, .null, .null, .null, .null, .null, .null, .int 0])), (a0, .inl (cI, 4, .inl (fun _ => 0))), (a1, .inl (cI, 4, .inl (fun _ => 0))), (a2, .inl (cI, 4, .inl (fun _ => 0))), (a6, .inl (cI, 96, .inl (fun _ => 0))), (a7, .inl (cI, 96, .inl (fun _ => 0)))] := hD
  refine va_putF (D := D) (ci := 1) (v := .ref a7) (ty := .array .int) (C := RX1) (T := TX1) (N := 14) C.1 C.2.1 hts in_X1 tyX1 tyX1_ok nmX1 hown hK hP hD hS 0 rfl rfl 7 (by decide) (hts _ q206) (fun _ h9 => h9) rfl hin rfl (by decide +kernel) rfl rfl (Nat.le_of_ble_eq_true rfl) dX1_init_38 (fun H locs hP hD hS => ?_)
  have hP : va_P D os_cls [(h, .inr (1, [.ref a0, .ref a1, .ref a2, .int 0, .int 0, .int 0, .ref a6, .ref a7, .null, .null, .null, .null, .null, .int 0])), (a0, .inl (cI, 4, .inl (fun _ => 0))), (a1, .inl (cI, 4, .inl (fun _ => 0))), (a2, .inl (cI, 4, .inl (fun _ => 0))), (a6, .inl (cI, 96, .inl (fun _ => 0))), (a7, .inl (cI, 96, .inl (fun _ => 0)))] H := hP
  have hD : va_D A [(h, .inr (1, [.ref a0, .ref a1, .ref a2, .int 0, .int 0, .int 0, .ref a6, .ref a7, .null, .null, .null, .null, .null, .int 0])), (a0, .inl (cI, 4, .inl (fun _ => 0))), (a1, .inl (cI, 4, .inl (fun _ => 0))), (a2, .inl (cI, 4, .inl (fun _ => 0))), (a6, .inl (cI, 96, .inl (fun _ => 0))), (a7, .inl (cI, 96, .inl (fun _ => 0)))] := hD
  refine lv_aload_n C.1 C.2.1 dX1_init_41 rfl (lv_at hl 0 rfl) ?_
  refine lv_bipush (v := 96) C.1 C.2.1 dX1_init_42 (by decide) ?_
  refine os_newI (N' := 96) C hP hD hS hA (by decide) (by decide) (by decide) (Nat.le_of_ble_eq_true rfl) (Nat.le_of_ble_eq_true rfl) dX1_init_44 (fun a8 H hP hD hS => ?_)
  refine W.widen (k := 6) (n := 300) (Nat.le_of_ble_eq_true rfl) (Nat.le_of_ble_eq_true rfl) ?_
  have hP : va_P D os_cls [(h, .inr (1, [.ref a0, .ref a1, .ref a2, .int 0, .int 0, .int 0, .ref a6, .ref a7, .null, .null, .null, .null, .null, .int 0])), (a0, .inl (cI, 4, .inl (fun _ => 0))), (a1, .inl (cI, 4, .inl (fun _ => 0))), (a2, .inl (cI, 4, .inl (fun _ => 0))), (a6, .inl (cI, 96, .inl (fun _ => 0))), (a7, .inl (cI, 96, .inl (fun _ => 0))), (a8, .inl (cI, 96, .inl (fun _ => 0)))] H := hP
  have hD : va_D A [(h, .inr (1, [.ref a0, .ref a1, .ref a2, .int 0, .int 0, .int 0, .ref a6, .ref a7, .null, .null, .null, .null, .null, .int 0])), (a0, .inl (cI, 4, .inl (fun _ => 0))), (a1, .inl (cI, 4, .inl (fun _ => 0))), (a2, .inl (cI, 4, .inl (fun _ => 0))), (a6, .inl (cI, 96, .inl (fun _ => 0))), (a7, .inl (cI, 96, .inl (fun _ => 0))), (a8, .inl (cI, 96, .inl (fun _ => 0)))] := hD
  refine va_putF (D := D) (ci := 1) (v := .ref a8) (ty := .array .int) (C := RX1) (T := TX1) (N := 14) C.1 C.2.1 hts in_X1 tyX1 tyX1_ok nmX1 hown hK hP hD hS 0 rfl rfl 8 (by decide) (hts _ q207) (fun _ h9 => h9) rfl hin rfl (by decide +kernel) rfl rfl (Nat.le_of_ble_eq_true rfl) dX1_init_46 (fun H locs hP hD hS => ?_)
  have hP : va_P D os_cls [(h, .inr (1, [.ref a0, .ref a1, .ref a2, .int 0, .int 0, .int 0, .ref a6, .ref a7, .ref a8, .null, .null, .null, .null, .int 0])), (a0, .inl (cI, 4, .inl (fun _ => 0))), (a1, .inl (cI, 4, .inl (fun _ => 0))), (a2, .inl (cI, 4, .inl (fun _ => 0))), (a6, .inl (cI, 96, .inl (fun _ => 0))), (a7, .inl (cI, 96, .inl (fun _ => 0))), (a8, .inl (cI, 96, .inl (fun _ => 0)))] H := hP
  have hD : va_D A [(h, .inr (1, [.ref a0, .ref a1, .ref a2, .int 0, .int 0, .int 0, .ref a6, .ref a7, .ref a8, .null, .null, .null, .null, .int 0])), (a0, .inl (cI, 4, .inl (fun _ => 0))), (a1, .inl (cI, 4, .inl (fun _ => 0))), (a2, .inl (cI, 4, .inl (fun _ => 0))), (a6, .inl (cI, 96, .inl (fun _ => 0))), (a7, .inl (cI, 96, .inl (fun _ => 0))), (a8, .inl (cI, 96, .inl (fun _ => 0)))] := hD
  refine lv_aload_n C.1 C.2.1 dX1_init_49 rfl (lv_at hl 0 rfl) ?_
  refine lv_bipush (v := 96) C.1 C.2.1 dX1_init_50 (by decide) ?_
  refine os_newI (N' := 96) C hP hD hS hA (by decide) (by decide) (by decide) (Nat.le_of_ble_eq_true rfl) (Nat.le_of_ble_eq_true rfl) dX1_init_52 (fun a9 H hP hD hS => ?_)
  refine W.widen (k := 7) (n := 396) (Nat.le_of_ble_eq_true rfl) (Nat.le_of_ble_eq_true rfl) ?_
  have hP : va_P D os_cls [(h, .inr (1, [.ref a0, .ref a1, .ref a2, .int 0, .int 0, .int 0, .ref a6, .ref a7, .ref a8, .null, .null, .null, .null, .int 0])), (a0, .inl (cI, 4, .inl (fun _ => 0))), (a1, .inl (cI, 4, .inl (fun _ => 0))), (a2, .inl (cI, 4, .inl (fun _ => 0))), (a6, .inl (cI, 96, .inl (fun _ => 0))), (a7, .inl (cI, 96, .inl (fun _ => 0))), (a8, .inl (cI, 96, .inl (fun _ => 0))), (a9, .inl (cI, 96, .inl (fun _ => 0)))] H := hP
  have hD : va_D A [(h, .inr (1, [.ref a0, .ref a1, .ref a2, .int 0, .int 0, .int 0, .ref a6, .ref a7, .ref a8, .null, .null, .null, .null, .int 0])), (a0, .inl (cI, 4, .inl (fun _ => 0))), (a1, .inl (cI, 4, .inl (fun _ => 0))), (a2, .inl (cI, 4, .inl (fun _ => 0))), (a6, .inl (cI, 96, .inl (fun _ => 0))), (a7, .inl (cI, 96, .inl (fun _ => 0))), (a8, .inl (cI, 96, .inl (fun _ => 0))), (a9, .inl (cI, 96, .inl (fun _ => 0)))] := hD
  refine va_putF (D := D) (ci := 1) (v := .ref a9) (ty := .array .int) (C := RX1) (T := TX1) (N := 14) C.1 C.2.1 hts in_X1 tyX1 tyX1_ok nmX1 hown hK hP hD hS 0 rfl rfl 9 (by decide) (hts _ q208) (fun _ h9 => h9) rfl hin rfl (by decide +kernel) rfl rfl (Nat.le_of_ble_eq_true rfl) dX1_init_54 (fun H locs hP hD hS => ?_)
  have hP : va_P D os_cls [(h, .inr (1, [.ref a0, .ref a1, .ref a2, .int 0, .int 0, .int 0, .ref a6, .ref a7, .ref a8, .ref a9, .null, .null, .null, .int 0])), (a0, .inl (cI, 4, .inl (fun _ => 0))), (a1, .inl (cI, 4, .inl (fun _ => 0))), (a2, .inl (cI, 4, .inl (fun _ => 0))), (a6, .inl (cI, 96, .inl (fun _ => 0))), (a7, .inl (cI, 96, .inl (fun _ => 0))), (a8, .inl (cI, 96, .inl (fun _ => 0))), (a9, .inl (cI, 96, .inl (fun _ => 0)))] H := hP
  have hD : va_D A [(h, .inr (1, [.ref a0, .ref a1, .ref a2, .int 0, .int 0, .int 0, .ref a6, .ref a7, .ref a8, .ref a9, .null, .null, .null, .int 0])), (a0, .inl (cI, 4, .inl (fun _ => 0))), (a1, .inl (cI, 4, .inl (fun _ => 0))), (a2, .inl (cI, 4, .inl (fun _ => 0))), (a6, .inl (cI, 96, .inl (fun _ => 0))), (a7, .inl (cI, 96, .inl (fun _ => 0))), (a8, .inl (cI, 96, .inl (fun _ => 0))), (a9, .inl (cI, 96, .inl (fun _ => 0)))] := hD
  refine lv_aload_n C.1 C.2.1 dX1_init_57 rfl (lv_at hl 0 rfl) ?_
  refine lv_bipush (v := 96) C.1 C.2.1 dX1_init_58 (by decide) ?_
  refine os_newZ (N' := 96) C hP hD hS hA (by decide) (by decide) (by decide) (Nat.le_of_ble_eq_true rfl) (Nat.le_of_ble_eq_true rfl) dX1_init_60 (fun a10 H hP hD hS => ?_)
  refine W.widen (k := 8) (n := 492) (Nat.le_of_ble_eq_true rfl) (Nat.le_of_ble_eq_true rfl) ?_
  have hP : va_P D os_cls [(h, .inr (1, [.ref a0, .ref a1, .ref a2, .int 0, .int 0, .int 0, .ref a6, .ref a7, .ref a8, .ref a9, .null, .null, .null, .int 0])), (a0, .inl (cI, 4, .inl (fun _ => 0))), (a1, .inl (cI, 4, .inl (fun _ => 0))), (a2, .inl (cI, 4, .inl (fun _ => 0))), (a6, .inl (cI, 96, .inl (fun _ => 0))), (a7, .inl (cI, 96, .inl (fun _ => 0))), (a8, .inl (cI, 96, .inl (fun _ => 0))), (a9, .inl (cI, 96, .inl (fun _ => 0))), (a10, .inl (cZ, 96, .inl (fun _ => 0)))] H := hP
  have hD : va_D A [(h, .inr (1, [.ref a0, .ref a1, .ref a2, .int 0, .int 0, .int 0, .ref a6, .ref a7, .ref a8, .ref a9, .null, .null, .null, .int 0])), (a0, .inl (cI, 4, .inl (fun _ => 0))), (a1, .inl (cI, 4, .inl (fun _ => 0))), (a2, .inl (cI, 4, .inl (fun _ => 0))), (a6, .inl (cI, 96, .inl (fun _ => 0))), (a7, .inl (cI, 96, .inl (fun _ => 0))), (a8, .inl (cI, 96, .inl (fun _ => 0))), (a9, .inl (cI, 96, .inl (fun _ => 0))), (a10, .inl (cZ, 96, .inl (fun _ => 0)))] := hD
  refine va_putF (D := D) (ci := 1) (v := .ref a10) (ty := .array .boolean) (C := RX1) (T := TX1) (N := 14) C.1 C.2.1 hts in_X1 tyX1 tyX1_ok nmX1 hown hK hP hD hS 0 rfl rfl 10 (by decide) (hts _ q209) (fun _ h9 => h9) rfl hin rfl (by decide +kernel) rfl rfl (Nat.le_of_ble_eq_true rfl) dX1_init_62 (fun H locs hP hD hS => ?_)
  have hP : va_P D os_cls [(h, .inr (1, [.ref a0, .ref a1, .ref a2, .int 0, .int 0, .int 0, .ref a6, .ref a7, .ref a8, .ref a9, .ref a10, .null, .null, .int 0])), (a0, .inl (cI, 4, .inl (fun _ => 0))), (a1, .inl (cI, 4, .inl (fun _ => 0))), (a2, .inl (cI, 4, .inl (fun _ => 0))), (a6, .inl (cI, 96, .inl (fun _ => 0))), (a7, .inl (cI, 96, .inl (fun _ => 0))), (a8, .inl (cI, 96, .inl (fun _ => 0))), (a9, .inl (cI, 96, .inl (fun _ => 0))), (a10, .inl (cZ, 96, .inl (fun _ => 0)))] H := hP
  have hD : va_D A [(h, .inr (1, [.ref a0, .ref a1, .ref a2, .int 0, .int 0, .int 0, .ref a6, .ref a7, .ref a8, .ref a9, .ref a10, .null, .null, .int 0])), (a0, .inl (cI, 4, .inl (fun _ => 0))), (a1, .inl (cI, 4, .inl (fun _ => 0))), (a2, .inl (cI, 4, .inl (fun _ => 0))), (a6, .inl (cI, 96, .inl (fun _ => 0))), (a7, .inl (cI, 96, .inl (fun _ => 0))), (a8, .inl (cI, 96, .inl (fun _ => 0))), (a9, .inl (cI, 96, .inl (fun _ => 0))), (a10, .inl (cZ, 96, .inl (fun _ => 0)))] := hD
  refine lv_aload_n C.1 C.2.1 dX1_init_65 rfl (lv_at hl 0 rfl) ?_
  refine lv_iconst (v := 4) C.1 C.2.1 dX1_init_66 (by decide) ?_
  refine os_newI (N' := 4) C hP hD hS hA (by decide) (by decide) (by decide) (Nat.le_of_ble_eq_true rfl) (Nat.le_of_ble_eq_true rfl) dX1_init_67 (fun a11 H hP hD hS => ?_)
  refine W.widen (k := 9) (n := 496) (Nat.le_of_ble_eq_true rfl) (Nat.le_of_ble_eq_true rfl) ?_
  have hP : va_P D os_cls [(h, .inr (1, [.ref a0, .ref a1, .ref a2, .int 0, .int 0, .int 0, .ref a6, .ref a7, .ref a8, .ref a9, .ref a10, .null, .null, .int 0])), (a0, .inl (cI, 4, .inl (fun _ => 0))), (a1, .inl (cI, 4, .inl (fun _ => 0))), (a2, .inl (cI, 4, .inl (fun _ => 0))), (a6, .inl (cI, 96, .inl (fun _ => 0))), (a7, .inl (cI, 96, .inl (fun _ => 0))), (a8, .inl (cI, 96, .inl (fun _ => 0))), (a9, .inl (cI, 96, .inl (fun _ => 0))), (a10, .inl (cZ, 96, .inl (fun _ => 0))), (a11, .inl (cI, 4, .inl (fun _ => 0)))] H := hP
  have hD : va_D A [(h, .inr (1, [.ref a0, .ref a1, .ref a2, .int 0, .int 0, .int 0, .ref a6, .ref a7, .ref a8, .ref a9, .ref a10, .null, .null, .int 0])), (a0, .inl (cI, 4, .inl (fun _ => 0))), (a1, .inl (cI, 4, .inl (fun _ => 0))), (a2, .inl (cI, 4, .inl (fun _ => 0))), (a6, .inl (cI, 96, .inl (fun _ => 0))), (a7, .inl (cI, 96, .inl (fun _ => 0))), (a8, .inl (cI, 96, .inl (fun _ => 0))), (a9, .inl (cI, 96, .inl (fun _ => 0))), (a10, .inl (cZ, 96, .inl (fun _ => 0))), (a11, .inl (cI, 4, .inl (fun _ => 0)))] := hD
  refine va_putF (D := D) (ci := 1) (v := .ref a11) (ty := .array .int) (C := RX1) (T := TX1) (N := 14) C.1 C.2.1 hts in_X1 tyX1 tyX1_ok nmX1 hown hK hP hD hS 0 rfl rfl 11 (by decide) (hts _ q210) (fun _ h9 => h9) rfl hin rfl (by decide +kernel) rfl rfl (Nat.le_of_ble_eq_true rfl) dX1_init_69 (fun H locs hP hD hS => ?_)
  have hP : va_P D os_cls [(h, .inr (1, [.ref a0, .ref a1, .ref a2, .int 0, .int 0, .int 0, .ref a6, .ref a7, .ref a8, .ref a9, .ref a10, .ref a11, .null, .int 0])), (a0, .inl (cI, 4, .inl (fun _ => 0))), (a1, .inl (cI, 4, .inl (fun _ => 0))), (a2, .inl (cI, 4, .inl (fun _ => 0))), (a6, .inl (cI, 96, .inl (fun _ => 0))), (a7, .inl (cI, 96, .inl (fun _ => 0))), (a8, .inl (cI, 96, .inl (fun _ => 0))), (a9, .inl (cI, 96, .inl (fun _ => 0))), (a10, .inl (cZ, 96, .inl (fun _ => 0))), (a11, .inl (cI, 4, .inl (fun _ => 0)))] H := hP
  have hD : va_D A [(h, .inr (1, [.ref a0, .ref a1, .ref a2, .int 0, .int 0, .int 0, .ref a6, .ref a7, .ref a8, .ref a9, .ref a10, .ref a11, .null, .int 0])), (a0, .inl (cI, 4, .inl (fun _ => 0))), (a1, .inl (cI, 4, .inl (fun _ => 0))), (a2, .inl (cI, 4, .inl (fun _ => 0))), (a6, .inl (cI, 96, .inl (fun _ => 0))), (a7, .inl (cI, 96, .inl (fun _ => 0))), (a8, .inl (cI, 96, .inl (fun _ => 0))), (a9, .inl (cI, 96, .inl (fun _ => 0))), (a10, .inl (cZ, 96, .inl (fun _ => 0))), (a11, .inl (cI, 4, .inl (fun _ => 0)))] := hD
  refine lv_aload_n C.1 C.2.1 dX1_init_72 rfl (lv_at hl 0 rfl) ?_
  refine lv_iconst (v := 4) C.1 C.2.1 dX1_init_73 (by decide) ?_
  refine os_newI (N' := 4) C hP hD hS hA (by decide) (by decide) (by decide) (Nat.le_of_ble_eq_true rfl) (Nat.le_of_ble_eq_true rfl) dX1_init_74 (fun a12 H hP hD hS => ?_)
  refine W.widen (k := 10) (n := 500) (Nat.le_of_ble_eq_true rfl) (Nat.le_of_ble_eq_true rfl) ?_
  have hP : va_P D os_cls [(h, .inr (1, [.ref a0, .ref a1, .ref a2, .int 0, .int 0, .int 0, .ref a6, .ref a7, .ref a8, .ref a9, .ref a10, .ref a11, .null, .int 0])), (a0, .inl (cI, 4, .inl (fun _ => 0))), (a1, .inl (cI, 4, .inl (fun _ => 0))), (a2, .inl (cI, 4, .inl (fun _ => 0))), (a6, .inl (cI, 96, .inl (fun _ => 0))), (a7, .inl (cI, 96, .inl (fun _ => 0))), (a8, .inl (cI, 96, .inl (fun _ => 0))), (a9, .inl (cI, 96, .inl (fun _ => 0))), (a10, .inl (cZ, 96, .inl (fun _ => 0))), (a11, .inl (cI, 4, .inl (fun _ => 0))), (a12, .inl (cI, 4, .inl (fun _ => 0)))] H := hP
  have hD : va_D A [(h, .inr (1, [.ref a0, .ref a1, .ref a2, .int 0, .int 0, .int 0, .ref a6, .ref a7, .ref a8, .ref a9, .ref a10, .ref a11, .null, .int 0])), (a0, .inl (cI, 4, .inl (fun _ => 0))), (a1, .inl (cI, 4, .inl (fun _ => 0))), (a2, .inl (cI, 4, .inl (fun _ => 0))), (a6, .inl (cI, 96, .inl (fun _ => 0))), (a7, .inl (cI, 96, .inl (fun _ => 0))), (a8, .inl (cI, 96, .inl (fun _ => 0))), (a9, .inl (cI, 96, .inl (fun _ => 0))), (a10, .inl (cZ, 96, .inl (fun _ => 0))), (a11, .inl (cI, 4, .inl (fun _ => 0))), (a12, .inl (cI, 4, .inl (fun _ => 0)))] := hD
  refine va_putF (D := D) (ci := 1) (v := .ref a12) (ty := .array .int) (C := RX1) (T := TX1) (N := 14) C.1 C.2.1 hts in_X1 tyX1 tyX1_ok nmX1 hown hK hP hD hS 0 rfl rfl 12 (by decide) (hts _ q211) (fun _ h9 => h9) rfl hin rfl (by decide +kernel) rfl rfl (Nat.le_of_ble_eq_true rfl) dX1_init_76 (fun H locs hP hD hS => ?_)
  have hP : va_P D os_cls [(h, .inr (1, [.ref a0, .ref a1, .ref a2, .int 0, .int 0, .int 0, .ref a6, .ref a7, .ref a8, .ref a9, .ref a10, .ref a11, .ref a12, .int 0])), (a0, .inl (cI, 4, .inl (fun _ => 0))), (a1, .inl (cI, 4, .inl (fun _ => 0))), (a2, .inl (cI, 4, .inl (fun _ => 0))), (a6, .inl (cI, 96, .inl (fun _ => 0))), (a7, .inl (cI, 96, .inl (fun _ => 0))), (a8, .inl (cI, 96, .inl (fun _ => 0))), (a9, .inl (cI, 96, .inl (fun _ => 0))), (a10, .inl (cZ, 96, .inl (fun _ => 0))), (a11, .inl (cI, 4, .inl (fun _ => 0))), (a12, .inl (cI, 4, .inl (fun _ => 0)))] H := hP
  have hD : va_D A [(h, .inr (1, [.ref a0, .ref a1, .ref a2, .int 0, .int 0, .int 0, .ref a6, .ref a7, .ref a8, .ref a9, .ref a10, .ref a11, .ref a12, .int 0])), (a0, .inl (cI, 4, .inl (fun _ => 0))), (a1, .inl (cI, 4, .inl (fun _ => 0))), (a2, .inl (cI, 4, .inl (fun _ => 0))), (a6, .inl (cI, 96, .inl (fun _ => 0))), (a7, .inl (cI, 96, .inl (fun _ => 0))), (a8, .inl (cI, 96, .inl (fun _ => 0))), (a9, .inl (cI, 96, .inl (fun _ => 0))), (a10, .inl (cZ, 96, .inl (fun _ => 0))), (a11, .inl (cI, 4, .inl (fun _ => 0))), (a12, .inl (cI, 4, .inl (fun _ => 0)))] := hD
  obtain ⟨ad, had⟩ : ∃ ad : Nat → Nat, ad = fun k => ([a0, a1, a2, 0, 0, 0, a6, a7, a8, a9, a10, a11, a12, 0] : List Nat).getD k 0 := ⟨_, rfl⟩
  have hO : om_P D cI cZ h ad os_zero H := by
    subst had
    exact ⟨hP, om_self (σ := os_zero) hD⟩
  have hAO : ∀ q, om_A h ad q → A q := by
    subst had
    intro q hq
    have e : ([(h, .inr (1, [.ref a0, .ref a1, .ref a2, .int 0, .int 0, .int 0, .ref a6, .ref a7, .ref a8, .ref a9, .ref a10, .ref a11, .ref a12, .int 0])), (a0, .inl (cI, 4, .inl (fun _ => 0))), (a1, .inl (cI, 4, .inl (fun _ => 0))), (a2, .inl (cI, 4, .inl (fun _ => 0))), (a6, .inl (cI, 96, .inl (fun _ => 0))), (a7, .inl (cI, 96, .inl (fun _ => 0))), (a8, .inl (cI, 96, .inl (fun _ => 0))), (a9, .inl (cI, 96, .inl (fun _ => 0))), (a10, .inl (cZ, 96, .inl (fun _ => 0))), (a11, .inl (cI, 4, .inl (fun _ => 0))), (a12, .inl (cI, 4, .inl (fun _ => 0)))] : va_W).map Prod.fst = om_L h (fun k => ([a0, a1, a2, 0, 0, 0, a6, a7, a8, a9, a10, a11, a12, 0] : List Nat).getD k 0) := rfl
    have hq : q ∈ om_L h (fun k => ([a0, a1, a2, 0, 0, 0, a6, a7, a8, a9, a10, a11, a12, 0] : List Nat).getD k 0) := hq
    rw [← e] at hq
    obtain ⟨x, hx, rfl⟩ := List.mem_map.mp hq
    obtain ⟨i, hi⟩ := List.getElem?_of_mem hx
    exact hD.2 i x hi
  clear hP hD had
  have loop : ∀ (n i : Nat), i + n = 4 → ∀ (H : Heap) (locs : List Loc), om_P D cI cZ h ad (os_ini os_zero i) H → va_S A s.heap H locs → ∀ ls : Array Slot, lv_has ls 2 [(0, .ref h), (1, .int (nI i))] → W pg l e om_rm s m ([.ref h] : List Value).toArray below meth c H locs 10 500 (MQ below (va_Qv (fun ad : Nat → Nat => ∀ q ∈ om_L h ad, q = h ∨ s.heap.size ≤ q) (fun ad t => om_W D cI cZ h ad om_start t) A) ([.ref h] : List Value).toArray s 10 500 A) (F0 m 81 ls []) := by
    intro n
    induction n with
    | zero =>
      intro i hi H locs hO hS ls hl
      obtain rfl : i = 4 := by omega
      refine lv_iload_n C.1 C.2.1 dX1_init_81 rfl (lv_at hl 1 rfl) ?_
      refine lv_iconst (v := 4) C.1 C.2.1 dX1_init_82 (by decide) ?_
      refine lv_icmp_ge (tgt := 107) C.1 C.2.1 dX1_init_83 (by decide) (fun c83 => ?_) (fun c83 => ?_)
      · have c83 := Int32.not_lt.mpr c83
        refine lv_aload_n C.1 C.2.1 dX1_init_107 rfl (lv_at hl 0 rfl) ?_
        refine lv_iconst (v := -1) C.1 C.2.1 dX1_init_108 (by decide) ?_
        refine om_t4 C hO hAO hS dX1_init_109 (fun H locs hO hS => ?_)
        exact W.vret C.1 C.2.1 hr (fun t ht hW => ⟨⟨ad, rfl, fun q hq => by have := hAO q hq; rw [← hAe] at this; exact this, by rw [ht]; exact hO, va_K.moved hW.alike C.2.2.2.2.2⟩, hS.F ht⟩) hS.2.2 dX1_init_112 hlk
      · have c83 := Int32.not_le.mp c83
        exact absurd c83 (by decide)
    | succ n ih =>
      intro i hi H locs hO hS ls hl
      refine lv_iload_n C.1 C.2.1 dX1_init_81 rfl (lv_at hl 1 rfl) ?_
      refine lv_iconst (v := 4) C.1 C.2.1 dX1_init_82 (by decide) ?_
      refine lv_icmp_ge (tgt := 107) C.1 C.2.1 dX1_init_83 (by decide) (fun c1 => ?_) (fun c1 => ?_)
      · exact absurd (nI_lt (a := i) (b := 4) (by omega) (by omega)) (Int32.not_lt.mpr c1)
      · refine om_g1 C hO (lv_at hl 0 rfl) dX1_init_86 dX1_init_87 ?_
        refine lv_iload_n C.1 C.2.1 dX1_init_90 rfl (lv_at hl 1 rfl) ?_
        refine lv_iconst (v := 1) C.1 C.2.1 dX1_init_91 (by decide) ?_
        refine om_t1 (j := i) C hO hAO hS (nI_clamp (by omega)) (vp_in_nI (by omega) (by omega)) dX1_init_92 (fun H locs hO hS => ?_)
        refine om_g2 C hO (lv_at hl 0 rfl) dX1_init_93 dX1_init_94 ?_
        refine lv_iload_n C.1 C.2.1 dX1_init_97 rfl (lv_at hl 1 rfl) ?_
        refine lv_bipush (v := 15) C.1 C.2.1 dX1_init_98 (by decide) ?_
        refine om_t2 (j := i) C hO hAO hS (nI_clamp (by omega)) (vp_in_nI (by omega) (by omega)) dX1_init_100 (fun H locs hO hS => ?_)
        refine lv_iinc (v := nI (i + 1)) (lv' := [(1, .int (nI (i + 1))), (0, .ref h)]) C.1 C.2.1 dX1_init_101 hl (k := 1) rfl (nI_1 i) (by decide) rfl (fun ls hl => ?_)
        refine lv_goto (tgt := 81) C.1 C.2.1 dX1_init_104 (by decide) ?_
        exact ih (i + 1) (by omega) H locs hO hS ls (lv_sub hl [1, 0] rfl)
  refine lv_iconst (v := 0) C.1 C.2.1 dX1_init_79 (by decide) ?_
  refine lv_istore_n (lv' := [(1, .int 0), (0, .ref h)]) C.1 C.2.1 dX1_init_80 rfl hl (by decide) rfl (fun ls hl => ?_)
  exact loop 4 0 rfl H locs hO hS ls (lv_sub hl [1, 0] rfl)
end
section
/-! THE PLAIN LAW, 1: histories (per process a sorted list of keys: time*64 + value*4 + life) and their uniqueness -/
def hs_step (s : Int32) (k : Nat) : Int32 := s * 5 + nI (k / 4 % 16) + 1
def hs_run (s : Int32) (l : List Nat) : Int32 := l.foldl hs_step s
def hs_kid (ρ : os_St) (p : Nat) (s : Int32) (k : Nat) : List (Nat × Nat) :=
  if 0 < k % 4 ∧ (s &&& ρ 2 p) = 0 then [(os_ix (ρ 0 p), (k / 64 + os_ix (ρ 1 p)) * 64 + os_ix ((s >>> ((2 : Int32) &&& 31)) &&& 15) * 4 + (k % 4 - 1))] else []
def hs_kids (ρ : os_St) (p : Nat) : Int32 → List Nat → List (Nat × Nat)
  | _, [] => []
  | s, k :: l => hs_kid ρ p (hs_step s k) k ++ hs_kids ρ p (hs_step s k) l
def hs_srt (l : List Nat) : Prop := l.Pairwise (fun a b => a ≤ b)
def hs_s4 (f : Nat → Nat) : Nat := f 0 + f 1 + f 2 + f 3
def hs_lt (K : Nat) (l : List Nat) : List Nat := l.filter (fun k => decide (k < K))
def hs_ge (K : Nat) (l : List Nat) : List Nat := l.filter (fun k => decide (K ≤ k))
def hs_cons (ρ : os_St) (inj : List (Nat × Nat)) (K : Nat) (ks : Nat → List Nat) : Prop :=
  (∀ p, p < 4 → hs_srt (ks p)) ∧ ∀ q, q < 4 → ∀ k, k < K → (ks q).count k = inj.count (q, k) + hs_s4 (fun p => (hs_kids ρ p 0 (ks p)).count (q, k))
theorem hs_run_app (s : Int32) (a b : List Nat) : hs_run s (a ++ b) = hs_run (hs_run s a) b := by simp [hs_run, List.foldl_append]
theorem hs_run_cons (s : Int32) (k : Nat) (b : List Nat) : hs_run s (k :: b) = hs_run (hs_step s k) b := rfl
theorem hs_kids_app (ρ : os_St) (p : Nat) : ∀ (a b : List Nat) (s : Int32), hs_kids ρ p s (a ++ b) = hs_kids ρ p s a ++ hs_kids ρ p (hs_run s a) b
  | [], b, s => rfl
  | k :: a, b, s => by
    rw [List.cons_append, hs_kids, hs_kids, hs_kids_app ρ p a b, List.append_assoc, hs_run_cons]
theorem hs_kid_late {ρ : os_St} {p : Nat} {s : Int32} {k : Nat} {x : Nat × Nat} (hd : 1 ≤ os_ix (ρ 1 p)) (h : x ∈ hs_kid ρ p s k) : k < x.2 := by
  unfold hs_kid at h
  split at h
  · rw [List.mem_singleton] at h
    subst h
    dsimp only
    omega
  · cases h
theorem hs_kids_late {ρ : os_St} {p : Nat} {K : Nat} {x : Nat × Nat} (hd : 1 ≤ os_ix (ρ 1 p)) : ∀ (l : List Nat) (s : Int32), (∀ k, k ∈ l → K ≤ k) → x ∈ hs_kids ρ p s l → K < x.2
  | [], s, _, h => by cases h
  | k :: l, s, hk, h => by
    rw [hs_kids, List.mem_append] at h
    rcases h with h | h
    · have := hs_kid_late hd h
      have := hk k List.mem_cons_self
      omega
    · exact hs_kids_late hd l _ (fun k hk2 => hk k (List.mem_cons_of_mem _ hk2)) h
theorem hs_lt_mem {K k : Nat} {l : List Nat} : k ∈ hs_lt K l ↔ k ∈ l ∧ k < K := by simp [hs_lt]
theorem hs_ge_mem {K k : Nat} {l : List Nat} : k ∈ hs_ge K l ↔ k ∈ l ∧ K ≤ k := by simp [hs_ge]
theorem hs_lt_nil {K : Nat} {l : List Nat} (h : ∀ k, k ∈ l → K ≤ k) : hs_lt K l = [] := by
  rw [hs_lt, List.filter_eq_nil_iff]
  intro a ha
  have := h a ha
  simp
  omega
theorem hs_lt_all {K : Nat} {l : List Nat} (h : ∀ k, k ∈ l → k < K) : hs_lt K l = l := by
  rw [hs_lt, List.filter_eq_self]
  intro a ha
  simpa using h a ha
theorem hs_ge_all {K : Nat} {l : List Nat} (h : ∀ k, k ∈ l → K ≤ k) : hs_ge K l = l := by
  rw [hs_ge, List.filter_eq_self]
  intro a ha
  simpa using h a ha
theorem hs_lt_app (K : Nat) (a b : List Nat) : hs_lt K (a ++ b) = hs_lt K a ++ hs_lt K b := by simp [hs_lt]
theorem hs_split (K : Nat) : ∀ (l : List Nat), hs_srt l → l = hs_lt K l ++ hs_ge K l
  | [], _ => rfl
  | a :: l, h => by
    have h1 := List.pairwise_cons.mp h
    by_cases hk : a < K
    · have e1 : hs_lt K (a :: l) = a :: hs_lt K l := by simp [hs_lt, hk]
      have e2 : hs_ge K (a :: l) = hs_ge K l := by
        rw [hs_ge, List.filter_cons_of_neg (by simpa using hk)]
        rfl
      rw [e1, e2, List.cons_append, ← hs_split K l h1.2]
    · have hall : ∀ k, k ∈ a :: l → K ≤ k := by
        intro k hk2
        rcases List.mem_cons.mp hk2 with e | e
        · omega
        · have := h1.1 k e
          omega
      rw [hs_lt_nil hall, hs_ge_all hall, List.nil_append]
theorem hs_lt_succ (K : Nat) : ∀ (l : List Nat), hs_srt l → hs_lt (K + 1) l = hs_lt K l ++ List.replicate (l.count K) K
  | [], _ => rfl
  | a :: l, h => by
    have h1 := List.pairwise_cons.mp h
    have ih := hs_lt_succ K l h1.2
    rcases Nat.lt_trichotomy a K with hk | hk | hk
    · have e1 : hs_lt (K + 1) (a :: l) = a :: hs_lt (K + 1) l := by
        rw [hs_lt, List.filter_cons_of_pos (by simpa using (by omega : a < K + 1))]
        rfl
      have e2 : hs_lt K (a :: l) = a :: hs_lt K l := by simp [hs_lt, hk]
      have e3 : (a :: l).count K = l.count K := List.count_cons_of_ne (by omega)
      rw [e1, e2, e3, ih, List.cons_append]
    · subst hk
      have e1 : hs_lt (a + 1) (a :: l) = a :: hs_lt (a + 1) l := by simp [hs_lt]
      have e2 : hs_lt a (a :: l) = [] := hs_lt_nil (fun k hk => by
        rcases List.mem_cons.mp hk with e | e
        · omega
        · exact h1.1 k e)
      have e4 : hs_lt a l = [] := hs_lt_nil h1.1
      rw [e1, e2, List.count_cons_self, ih, e4, List.nil_append, List.nil_append, List.replicate_succ]
    · have hall : ∀ k, k ∈ a :: l → K + 1 ≤ k := by
        intro k hk2
        rcases List.mem_cons.mp hk2 with e | e
        · omega
        · have := h1.1 k e
          omega
      rw [hs_lt_nil hall, hs_lt_nil (fun k hk => by have := hall k hk; omega), List.count_eq_zero.mpr (fun q => by have := hall K q; omega)]
      rfl
/-- the children at a key come from events of smaller keys alone -/
theorem hs_kids_lt {ρ : os_St} {p K : Nat} (hd : 1 ≤ os_ix (ρ 1 p)) {l : List Nat} (h : hs_srt l) (q k : Nat) (hk : k ≤ K) : (hs_kids ρ p 0 l).count (q, k) = (hs_kids ρ p 0 (hs_lt K l)).count (q, k) := by
  have e := hs_split K l h
  have e2 : hs_kids ρ p 0 l = hs_kids ρ p 0 (hs_lt K l) ++ hs_kids ρ p (hs_run 0 (hs_lt K l)) (hs_ge K l) := by
    rw [← hs_kids_app, ← e]
  rw [e2, List.count_append]
  have : (hs_kids ρ p (hs_run 0 (hs_lt K l)) (hs_ge K l)).count (q, k) = 0 := by
    rw [List.count_eq_zero]
    intro hx
    have := hs_kids_late hd (K := K) _ _ (fun k hk => (hs_ge_mem.mp hk).2) hx
    dsimp only at this
    omega
  omega
theorem hs_s4_congr {f g : Nat → Nat} (h : ∀ p, p < 4 → f p = g p) : hs_s4 f = hs_s4 g := by
  unfold hs_s4
  rw [h 0 (by omega), h 1 (by omega), h 2 (by omega), h 3 (by omega)]
theorem hs_s4_add (f g : Nat → Nat) : hs_s4 (fun p => f p + g p) = hs_s4 f + hs_s4 g := by
  unfold hs_s4
  dsimp only
  omega
theorem hs_uniq_to {ρ : os_St} {inj : List (Nat × Nat)} {K : Nat} {ks ks' : Nat → List Nat} (hd : ∀ p, p < 4 → 1 ≤ os_ix (ρ 1 p)) (h : hs_cons ρ inj K ks) (h' : hs_cons ρ inj K ks') : ∀ k, k ≤ K → ∀ p, p < 4 → hs_lt k (ks p) = hs_lt k (ks' p)
  | 0, _, p, hp => by
    rw [hs_lt_nil (fun k _ => Nat.zero_le k), hs_lt_nil (fun k _ => Nat.zero_le k)]
  | k + 1, hk, p, hp => by
    have ih := hs_uniq_to hd h h' k (by omega)
    have hc : (ks p).count k = (ks' p).count k := by
      rw [h.2 p hp k (by omega), h'.2 p hp k (by omega)]
      congr 1
      refine hs_s4_congr (fun q hq => ?_)
      rw [hs_kids_lt (hd q hq) (h.1 q hq) p k (Nat.le_refl k), hs_kids_lt (hd q hq) (h'.1 q hq) p k (Nat.le_refl k), ih q hq]
    rw [hs_lt_succ k _ (h.1 p hp), hs_lt_succ k _ (h'.1 p hp), hc, ih p hp]
/-- UNIQUENESS: two consistent histories agree below K -/
theorem hs_uniq {ρ : os_St} {inj : List (Nat × Nat)} {K : Nat} {ks ks' : Nat → List Nat} (hd : ∀ p, p < 4 → 1 ≤ os_ix (ρ 1 p)) (h : hs_cons ρ inj K ks) (h' : hs_cons ρ inj K ks') {p : Nat} (hp : p < 4) : hs_lt K (ks p) = hs_lt K (ks' p) := hs_uniq_to hd h h' K (Nat.le_refl K) p hp
/-- only the rules count -/
theorem hs_kid_rules {ρ ρ' : os_St} {p : Nat} (h0 : ρ 0 p = ρ' 0 p) (h1 : ρ 1 p = ρ' 1 p) (h2 : ρ 2 p = ρ' 2 p) (s : Int32) (k : Nat) : hs_kid ρ p s k = hs_kid ρ' p s k := by
  unfold hs_kid
  rw [h0, h1, h2]
theorem hs_kids_rules {ρ ρ' : os_St} {p : Nat} (h0 : ρ 0 p = ρ' 0 p) (h1 : ρ 1 p = ρ' 1 p) (h2 : ρ 2 p = ρ' 2 p) : ∀ (l : List Nat) (s : Int32), hs_kids ρ p s l = hs_kids ρ' p s l
  | [], s => rfl
  | k :: l, s => by rw [hs_kids, hs_kids, hs_kid_rules h0 h1 h2, hs_kids_rules h0 h1 h2 l]
theorem hs_cons_rules {ρ ρ' : os_St} {inj : List (Nat × Nat)} {K : Nat} {ks : Nat → List Nat} (h0 : ∀ p, p < 4 → ρ 0 p = ρ' 0 p) (h1 : ∀ p, p < 4 → ρ 1 p = ρ' 1 p) (h2 : ∀ p, p < 4 → ρ 2 p = ρ' 2 p) (h : hs_cons ρ inj K ks) : hs_cons ρ' inj K ks := by
  refine ⟨h.1, fun q hq k hk => ?_⟩
  rw [h.2 q hq k hk]
  congr 1
  exact hs_s4_congr (fun p hp => by rw [hs_kids_rules (h0 p hp) (h1 p hp) (h2 p hp)])
end
section
/-! THE PLAIN LAW, 2: the order of events, the best place, counting -/
def x_key (σ : os_St) (e : Nat) : Nat := os_ix (σ 6 e) * 64 + os_ix (σ 8 e) * 4 + os_ix (σ 9 e)
def x_ord (σ : os_St) (e : Nat) : Nat := x_key σ e * 96 + e
def x_pr (σ : os_St) (e : Nat) : Nat := os_ix (σ 7 e)
def x_ti (σ : os_St) (e : Nat) : Nat := os_ix (σ 6 e)
def x_wf (σ : os_St) : Prop := ∀ e, e < 96 → vp_in (σ 7 e) 4 ∧ vp_in (σ 6 e) 127 ∧ vp_in (σ 8 e) 16 ∧ vp_in (σ 9 e) 4 ∧ os_ix (σ 6 e) + 9 * os_ix (σ 9 e) ≤ 126
theorem x_key_ti {σ : os_St} (hw : x_wf σ) {e : Nat} (he : e < 96) : x_key σ e / 64 = x_ti σ e := by
  obtain ⟨-, -, h8, h9, -⟩ := hw e he
  have a := os_vpn h8
  have b := os_vpn h9
  unfold x_key x_ti
  omega
theorem x_key_va {σ : os_St} (hw : x_wf σ) {e : Nat} (he : e < 96) : x_key σ e / 4 % 16 = os_ix (σ 8 e) := by
  obtain ⟨-, -, h8, h9, -⟩ := hw e he
  have a := os_vpn h8
  have b := os_vpn h9
  unfold x_key
  omega
theorem x_key_li {σ : os_St} (hw : x_wf σ) {e : Nat} (he : e < 96) : x_key σ e % 4 = os_ix (σ 9 e) := by
  obtain ⟨-, -, h8, h9, -⟩ := hw e he
  have a := os_vpn h8
  have b := os_vpn h9
  unfold x_key
  omega
theorem x_ord_inj {σ : os_St} {a b : Nat} (ha : a < 96) (hb : b < 96) (h : x_ord σ a = x_ord σ b) : a = b := by
  unfold x_ord at h
  omega
theorem x_ord_key {σ : os_St} {a b : Nat} (ha : a < 96) (hb : b < 96) (h : x_ord σ a ≤ x_ord σ b) : x_key σ a ≤ x_key σ b := by
  unfold x_ord at h
  omega
theorem x_ord_of_key {σ : os_St} {a b : Nat} (ha : a < 96) (h : x_key σ a < x_key σ b) : x_ord σ a < x_ord σ b := by
  unfold x_ord
  omega
theorem x_ord_ti {σ : os_St} (hw : x_wf σ) {a b : Nat} (ha : a < 96) (hb : b < 96) (h : x_ord σ a ≤ x_ord σ b) : x_ti σ a ≤ x_ti σ b := by
  rw [← x_key_ti hw ha, ← x_key_ti hw hb]
  exact Nat.div_le_div_right (x_ord_key ha hb h)
theorem x_ord_of_ti {σ : os_St} (hw : x_wf σ) {a b : Nat} (ha : a < 96) (hb : b < 96) (h : x_ti σ a < x_ti σ b) : x_ord σ a < x_ord σ b := by
  rcases Nat.lt_or_ge (x_ord σ a) (x_ord σ b) with q | q
  · exact q
  · have := x_ord_ti hw hb ha q
    omega
theorem x_soon {σ : os_St} (hw : x_wf σ) {a b : Nat} (ha : a < 96) (hb : b < 96) : os_soon σ a b = true ↔ x_ord σ a < x_ord σ b := by
  obtain ⟨-, a6, a8, a9, -⟩ := hw a ha
  obtain ⟨-, b6, b8, b9, -⟩ := hw b hb
  have e1 := os_vpn a6
  have e2 := os_vpn a8
  have e3 := os_vpn a9
  have e4 := os_vpn b6
  have e5 := os_vpn b8
  have e6 := os_vpn b9
  unfold os_soon x_ord x_key
  rw [os_vpe a6 (by omega), os_vpe a8 (by omega), os_vpe a9 (by omega), os_vpe b6 (by omega), os_vpe b8 (by omega), os_vpe b9 (by omega)]
  generalize os_ix (σ 6 a) = t1 at *
  generalize os_ix (σ 8 a) = v1 at *
  generalize os_ix (σ 9 a) = l1 at *
  generalize os_ix (σ 6 b) = t2 at *
  generalize os_ix (σ 8 b) = v2 at *
  generalize os_ix (σ 9 b) = l2 at *
  have c : ∀ n : Nat, n < 2 ^ 31 → os_ix (nI n) = n := fun n hn => nI_clamp hn
  rw [c t1 (by omega), c v1 (by omega), c l1 (by omega), c t2 (by omega), c v2 (by omega), c l2 (by omega)]
  by_cases h1 : t1 = t2
  · subst h1
    rw [if_pos rfl]
    by_cases h2 : v1 = v2
    · subst h2
      rw [if_pos rfl]
      by_cases h3 : l1 = l2
      · subst h3
        rw [if_pos rfl]
        simp
      · rw [if_neg (fun q => h3 ((nI_eq (by omega) (by omega)).mp q)), decide_eq_true_iff, nI_ltI (by omega) (by omega)]
        omega
    · rw [if_neg (fun q => h2 ((nI_eq (by omega) (by omega)).mp q)), decide_eq_true_iff, nI_ltI (by omega) (by omega)]
      omega
  · rw [if_neg (fun q => h1 ((nI_eq (by omega) (by omega)).mp q)), decide_eq_true_iff, nI_ltI (by omega) (by omega)]
    omega
-- ===== the best place =====
theorem bs_none {ok : Nat → Bool} {lt : Nat → Nat → Bool} : ∀ {n : Nat}, os_best ok lt n = none → ∀ e, e < n → ok e = false
  | 0, _, e, he => by omega
  | n + 1, h, e, he => by
    rw [os_best] at h
    cases hb : os_best ok lt n with
    | none =>
      rw [hb, os_pick1] at h
      split at h
      · cases h
      · rename_i q
        by_cases q2 : e = n
        · subst q2; simpa using q
        · exact bs_none hb e (by omega)
    | some b =>
      rw [hb, os_pick1] at h
      split at h <;> cases h
theorem bs_some {ok : Nat → Bool} {lt : Nat → Nat → Bool} {f : Nat → Int} : ∀ {n b : Nat}, (∀ a b, a < n → b < n → (lt a b = true ↔ f a < f b)) → os_best ok lt n = some b → ok b = true ∧ ∀ e, e < n → ok e = true → f b ≤ f e
  | 0, b, _, h => by rw [os_best] at h; cases h
  | n + 1, b, hf, h => by
    rw [os_best] at h
    cases hb : os_best ok lt n with
    | none =>
      rw [hb, os_pick1] at h
      split at h
      · rename_i q
        cases h
        refine ⟨q, fun e he hok => ?_⟩
        by_cases q2 : e = n
        · subst q2; exact Int.le_refl _
        · rw [bs_none hb e (by omega)] at hok; cases hok
      · cases h
    | some b0 =>
      obtain ⟨h1, h2⟩ := bs_some (f := f) (fun a b ha hb => hf a b (by omega) (by omega)) hb
      have hb0 := os_best_lt hb
      rw [hb, os_pick1] at h
      split at h
      · rename_i q
        cases h
        rw [Bool.and_eq_true] at q
        have q3 := (hf n b0 (by omega) (by omega)).mp q.2
        refine ⟨q.1, fun e he hok => ?_⟩
        by_cases q2 : e = n
        · subst q2; exact Int.le_refl _
        · have := h2 e (by omega) hok
          omega
      · rename_i q
        cases h
        refine ⟨h1, fun e he hok => ?_⟩
        by_cases q2 : e = n
        · subst q2
          rcases Int.lt_or_le (f e) (f b) with q3 | q3
          · exact absurd (by rw [Bool.and_eq_true]; exact ⟨hok, (hf e b (by omega) (by omega)).mpr q3⟩) q
          · exact q3
        · exact h2 e (by omega) hok
theorem x_next_some {σ : os_St} (hw : x_wf σ) {p : Int32} {b : Nat} (h : os_next σ p 96 = some b) : b < 96 ∧ σ 5 b ≠ 0 ∧ σ 10 b = 0 ∧ σ 7 b = p ∧ ∀ e, e < 96 → σ 5 e ≠ 0 → σ 10 e = 0 → σ 7 e = p → x_ord σ b ≤ x_ord σ e := by
  have hb := os_best_lt h
  obtain ⟨h1, h2⟩ := bs_some (f := fun e => (x_ord σ e : Int)) (fun a b ha hb => by rw [x_soon hw ha hb]; omega) h
  simp only [os_okN, Bool.and_eq_true, decide_eq_true_iff] at h1
  refine ⟨hb, h1.1, h1.2.1, h1.2.2, fun e he a1 a2 a3 => ?_⟩
  have := h2 e he (by simp only [os_okN, Bool.and_eq_true, decide_eq_true_iff]; exact ⟨a1, a2, a3⟩)
  omega
theorem x_next_none {σ : os_St} {p : Int32} (h : os_next σ p 96 = none) (e : Nat) (he : e < 96) : ¬ (σ 5 e ≠ 0 ∧ σ 10 e = 0 ∧ σ 7 e = p) := by
  have := bs_none h e he
  intro q
  rw [os_okN] at this
  simp only [decide_eq_true q.1, decide_eq_true q.2.1, decide_eq_true q.2.2] at this
  cases this
theorem x_last_some {σ : os_St} (hw : x_wf σ) {p : Int32} {b : Nat} (h : os_last σ p 96 = some b) : b < 96 ∧ σ 5 b ≠ 0 ∧ σ 10 b ≠ 0 ∧ σ 7 b = p ∧ ∀ e, e < 96 → σ 5 e ≠ 0 → σ 10 e ≠ 0 → σ 7 e = p → x_ord σ e ≤ x_ord σ b := by
  have hb := os_best_lt h
  obtain ⟨h1, h2⟩ := bs_some (f := fun e => -(x_ord σ e : Int)) (fun a b ha hb => by rw [x_soon hw hb ha]; omega) h
  simp only [os_okL, Bool.and_eq_true, decide_eq_true_iff] at h1
  refine ⟨hb, h1.1, h1.2.1, h1.2.2, fun e he a1 a2 a3 => ?_⟩
  have := h2 e he (by simp only [os_okL, Bool.and_eq_true, decide_eq_true_iff]; exact ⟨a1, a2, a3⟩)
  omega
theorem x_last_none {σ : os_St} {p : Int32} (h : os_last σ p 96 = none) (e : Nat) (he : e < 96) : ¬ (σ 5 e ≠ 0 ∧ σ 10 e ≠ 0 ∧ σ 7 e = p) := by
  have := bs_none h e he
  intro q
  rw [os_okL] at this
  simp only [decide_eq_true q.1, decide_eq_true q.2.1, decide_eq_true q.2.2] at this
  cases this
theorem x_first_some {σ : os_St} (hw : x_wf σ) {p t : Int32} {b : Nat} (h : os_firstT σ p t 96 = some b) : b < 96 ∧ σ 5 b ≠ 0 ∧ σ 10 b ≠ 0 ∧ σ 7 b = p ∧ t < σ 6 b ∧ ∀ e, e < 96 → σ 5 e ≠ 0 → σ 10 e ≠ 0 → σ 7 e = p → t < σ 6 e → x_ord σ b ≤ x_ord σ e := by
  have hb := os_best_lt h
  obtain ⟨h1, h2⟩ := bs_some (f := fun e => (x_ord σ e : Int)) (fun a b ha hb => by rw [x_soon hw ha hb]; omega) h
  simp only [os_okT, Bool.and_eq_true, decide_eq_true_iff] at h1
  refine ⟨hb, h1.1, h1.2.1, h1.2.2.1, h1.2.2.2, fun e he a1 a2 a3 a4 => ?_⟩
  have := h2 e he (by simp only [os_okT, Bool.and_eq_true, decide_eq_true_iff]; exact ⟨a1, a2, a3, a4⟩)
  omega
theorem x_first_none {σ : os_St} {p t : Int32} (h : os_firstT σ p t 96 = none) (e : Nat) (he : e < 96) : ¬ (σ 5 e ≠ 0 ∧ σ 10 e ≠ 0 ∧ σ 7 e = p ∧ t < σ 6 e) := by
  have := bs_none h e he
  intro q
  rw [os_okT] at this
  simp only [decide_eq_true q.1, decide_eq_true q.2.1, decide_eq_true q.2.2.1, decide_eq_true q.2.2.2] at this
  cases this
-- ===== counting =====
theorem ls_num {P : Nat → Bool} {n : Nat} : ∀ (l : List Nat), l.Nodup → (∀ e, e ∈ l → e < n) → l.countP P = os_num (fun e => decide (e ∈ l) && P e) n
  | [], _, _ => by
    rw [os_num_zero (fun i _ => by simp)]
    rfl
  | a :: l, hn, hl => by
    have h1 := List.nodup_cons.mp hn
    have ih := ls_num (P := P) (n := n) l h1.2 (fun e he => hl e (List.mem_cons_of_mem _ he))
    have hu := os_num_upd (f := fun e => decide (e ∈ a :: l) && P e) (g := fun e => decide (e ∈ l) && P e) (i := a) (n := n) (hl a List.mem_cons_self) (fun j _ hj => by simp [hj])
    have e1 : (decide (a ∈ l) && P a) = false := by simp [h1.1]
    have e2 : (decide (a ∈ a :: l) && P a) = P a := by simp
    simp only [e1, e2] at hu
    rw [List.countP_cons, ih]
    simpa using hu.symm
theorem ls_num2 {P Q : Nat → Bool} {n : Nat} {l : List Nat} (hn : l.Nodup) (h : ∀ e, e ∈ l ↔ e < n ∧ Q e = true) : l.countP P = os_num (fun e => Q e && P e) n := by
  rw [ls_num l hn (fun e he => ((h e).mp he).1)]
  refine os_num_congr (fun i hi => ?_)
  have : decide (i ∈ l) = Q i := by
    cases hq : Q i with
    | true => simpa using (h i).mpr ⟨hi, hq⟩
    | false =>
      simp only [decide_eq_false_iff_not]
      intro q
      rw [((h i).mp q).2] at hq
      cases hq
  rw [this]
theorem ls_len {n : Nat} {l : List Nat} (hn : l.Nodup) (h : ∀ e, e ∈ l → e < n) : l.length ≤ n := by
  have := ls_num (P := fun _ => true) l hn h
  rw [List.countP_true] at this
  rw [this]
  exact os_num_le n
theorem num_s4 {f : Nat → Bool} {g : Nat → Nat} : ∀ {n : Nat}, (∀ e, e < n → f e = true → g e < 4) → os_num f n = hs_s4 (fun p => os_num (fun e => f e && decide (g e = p)) n)
  | 0, _ => rfl
  | n + 1, h => by
    have ih := num_s4 (f := f) (g := g) (n := n) (fun e he => h e (by omega))
    have hg := h n (by omega)
    unfold hs_s4 at ih ⊢
    dsimp only at ih ⊢
    simp only [os_num]
    by_cases hf : f n = true
    · have := hg hf
      simp only [hf, Bool.true_and, if_true, decide_eq_true_iff]
      rcases (show g n = 0 ∨ g n = 1 ∨ g n = 2 ∨ g n = 3 by omega) with q | q | q | q <;> rw [q] <;> simp <;> omega
    · simp only [hf, Bool.not_eq_true] at hf ⊢
      simp only [hf, Bool.false_and]
      simp
      omega
theorem num_inj {m : Nat} {φ : Nat → Nat} {f : Nat → Bool} : ∀ {n : Nat} {g : Nat → Bool}, (∀ i, i < n → f i = true → φ i < m ∧ g (φ i) = true) → (∀ i j, i < n → j < n → f i = true → f j = true → φ i = φ j → i = j) → os_num f n ≤ os_num g m
  | 0, g, _, _ => Nat.zero_le _
  | n + 1, g, h1, h2 => by
    rw [os_num]
    by_cases hf : f n = true
    · obtain ⟨a, b⟩ := h1 n (by omega) hf
      have ih := num_inj (m := m) (φ := φ) (f := f) (n := n) (g := fun j => g j && decide (j ≠ φ n)) (fun i hi hfi => by
        have := h1 i (by omega) hfi
        refine ⟨this.1, ?_⟩
        rw [Bool.and_eq_true, decide_eq_true_iff]
        refine ⟨this.2, fun q => ?_⟩
        have := h2 i n (by omega) (by omega) hfi hf q
        omega) (fun i j hi hj => h2 i j (by omega) (by omega))
      have hu := os_num_upd (f := g) (g := fun j => g j && decide (j ≠ φ n)) (i := φ n) (n := m) a (fun j _ hj => by simp [hj])
      have e1 : ¬ ((fun j => g j && decide (j ≠ φ n)) (φ n) = true) := by simp
      rw [if_neg e1, if_pos b] at hu
      rw [if_pos hf]
      omega
    · rw [if_neg hf]
      exact num_inj (fun i hi => h1 i (by omega)) (fun i j hi hj => h2 i j (by omega) (by omega))
end
section
/-! THE PLAIN LAW, 3: the invariant of OptimisticSim's table; undoing an event keeps it -/
def x_at (σ : os_St) (x : Nat × Nat) (e : Nat) : Bool := decide (x_pr σ e = x.1) && decide (x_key σ e = x.2)
def x_Uf (σ : os_St) (x : Nat × Nat) (e : Nat) : Bool := decide (σ 5 e ≠ 0) && x_at σ x e
def x_Sf (σ : os_St) (x : Nat × Nat) (e : Nat) : Bool := decide (σ 5 e ≠ 0) && (decide (¬ σ 12 e < 0) && x_at σ x (os_ix (σ 12 e)))
def x_lf (σ : os_St) (e : Nat) : Bool := decide (σ 5 e ≠ 0) && decide (σ 12 e < 0)
def x_chain (σ : os_St) (b : Int32) : List Nat → Int32 → Prop
  | [], n => n = b
  | e :: r, n => n = hs_step (σ 11 e) (x_key σ e) ∧ x_chain σ b r (σ 11 e)
def x_place (σ : os_St) (s : Int32) : List (Nat × Nat) := if s < 0 then [] else [(x_pr σ (os_ix s), x_key σ (os_ix s))]
def x_pend (σ : os_St) : Nat → List Nat
  | 0 => []
  | r + 1 => os_ix (σ 17 r) :: x_pend σ r
def x_rules (σ : os_St) : Prop := ∀ p, p < 4 → vp_in (σ 0 p) 4 ∧ vp_in (σ 1 p) 10 ∧ 1 ≤ os_ix (σ 1 p)
def x_stk (C : Nat → List Nat) (L : Nat → List Nat) (σ : os_St) : Prop := ∀ p, p < 4 → (∀ e, e ∈ L p ↔ (e < 96 ∧ σ 5 e ≠ 0 ∧ σ 10 e ≠ 0 ∧ x_pr σ e = p)) ∧ (L p).Pairwise (fun a b => x_ord σ b < x_ord σ a) ∧ x_chain σ (hs_run 0 (C p)) (L p) (σ 13 p)
def x_pref (x : Nat) (σ : os_St) : Prop := ∀ d e, d < 96 → e < 96 → σ 5 d ≠ 0 → σ 5 e ≠ 0 → σ 10 e ≠ 0 → x_pr σ d = x_pr σ e → x_ord σ d < x_ord σ e → σ 10 d ≠ 0 ∨ d = x
def x_sent (σ : os_St) : Prop := ∀ e, e < 96 → σ 5 e ≠ 0 → (σ 10 e = 0 → σ 12 e < 0) ∧ (σ 10 e ≠ 0 → hs_kid σ (x_pr σ e) (hs_step (σ 11 e) (x_key σ e)) (x_key σ e) = x_place σ (σ 12 e))
def x_own (G : List Nat) (σ : os_St) : Prop := ∀ e, e < 96 → σ 5 e ≠ 0 → ¬ σ 12 e < 0 → vp_in (σ 12 e) 96 ∧ σ 5 (os_ix (σ 12 e)) ≠ 0 ∧ os_ix (σ 12 e) ∉ G ∧ ∀ e', e' < 96 → σ 5 e' ≠ 0 → σ 12 e' = σ 12 e → e' = e
def x_cnt (inj : List (Nat × Nat)) (C : Nat → List Nat) (H : Nat) (G : List Nat) (σ : os_St) : Prop := ∀ q k, q < 4 → H * 64 ≤ k → os_num (x_Uf σ (q, k)) 96 = inj.count (q, k) + hs_s4 (fun p => (hs_kids σ p 0 (C p)).count (q, k)) + os_num (x_Sf σ (q, k)) 96 + G.countP (x_at σ (q, k))
def x_inv (inj : List (Nat × Nat)) (C : Nat → List Nat) (H n x : Nat) (G : List Nat) (L : Nat → List Nat) (σ : os_St) : Prop :=
  x_wf σ ∧ x_rules σ ∧ (∀ e, e < 96 → σ 5 e ≠ 0 → H ≤ x_ti σ e) ∧ x_stk C L σ ∧ x_pref x σ ∧ x_sent σ ∧ x_own G σ ∧ (G.Nodup ∧ ∀ g, g ∈ G → g < 96 ∧ σ 5 g ≠ 0) ∧ x_cnt inj C H G σ ∧ os_num (x_lf σ) 96 ≤ n + G.length
theorem os_set_self (σ : os_St) (k i : Nat) (v : Int32) : os_set σ k i v k = upd (σ k) i v := by simp [os_set]
-- ===== what depends on what =====
theorem x_key_eq {σ τ : os_St} (h6 : τ 6 = σ 6) (h8 : τ 8 = σ 8) (h9 : τ 9 = σ 9) : x_key τ = x_key σ := by funext e; unfold x_key; rw [h6, h8, h9]
theorem x_ord_eq {σ τ : os_St} (h6 : τ 6 = σ 6) (h8 : τ 8 = σ 8) (h9 : τ 9 = σ 9) : x_ord τ = x_ord σ := by funext e; unfold x_ord; rw [x_key_eq h6 h8 h9]
theorem x_pr_eq {σ τ : os_St} (h7 : τ 7 = σ 7) : x_pr τ = x_pr σ := by funext e; unfold x_pr; rw [h7]
theorem x_ti_eq {σ τ : os_St} (h6 : τ 6 = σ 6) : x_ti τ = x_ti σ := by funext e; unfold x_ti; rw [h6]
theorem x_at_eq {σ τ : os_St} (h6 : τ 6 = σ 6) (h7 : τ 7 = σ 7) (h8 : τ 8 = σ 8) (h9 : τ 9 = σ 9) : x_at τ = x_at σ := by funext x e; unfold x_at; rw [x_key_eq h6 h8 h9, x_pr_eq h7]
theorem x_place_eq {σ τ : os_St} (h6 : τ 6 = σ 6) (h7 : τ 7 = σ 7) (h8 : τ 8 = σ 8) (h9 : τ 9 = σ 9) : x_place τ = x_place σ := by funext s; unfold x_place; rw [x_key_eq h6 h8 h9, x_pr_eq h7]
theorem x_wf_eq {σ τ : os_St} (h6 : τ 6 = σ 6) (h7 : τ 7 = σ 7) (h8 : τ 8 = σ 8) (h9 : τ 9 = σ 9) (h : x_wf σ) : x_wf τ := by unfold x_wf; rw [h6, h7, h8, h9]; exact h
theorem x_kid_eq {σ τ : os_St} (h0 : τ 0 = σ 0) (h1 : τ 1 = σ 1) (h2 : τ 2 = σ 2) : hs_kid τ = hs_kid σ := by funext p s k; exact hs_kid_rules (by rw [h0]) (by rw [h1]) (by rw [h2]) s k
theorem x_kids_eq {σ τ : os_St} (h0 : τ 0 = σ 0) (h1 : τ 1 = σ 1) (h2 : τ 2 = σ 2) : hs_kids τ = hs_kids σ := by funext p s l; exact hs_kids_rules (by rw [h0]) (by rw [h1]) (by rw [h2]) l s
theorem x_rules_eq {σ τ : os_St} (h0 : τ 0 = σ 0) (h1 : τ 1 = σ 1) (h : x_rules σ) : x_rules τ := by unfold x_rules; rw [h0, h1]; exact h
theorem x_chain_eq {σ τ : os_St} {b : Int32} : ∀ {l : List Nat} {n : Int32}, (∀ e, e ∈ l → τ 11 e = σ 11 e ∧ x_key τ e = x_key σ e) → x_chain σ b l n → x_chain τ b l n
  | [], _, _, h => h
  | e :: r, n, he, h => by
    obtain ⟨h1, h2⟩ := h
    obtain ⟨a, c⟩ := he e List.mem_cons_self
    refine ⟨by rw [a, c]; exact h1, ?_⟩
    rw [a]
    exact x_chain_eq (fun e2 h2 => he e2 (List.mem_cons_of_mem _ h2)) h2
theorem x_pend_eq {σ τ : os_St} : ∀ {r : Nat}, (∀ j, j < r → τ 17 j = σ 17 j) → x_pend τ r = x_pend σ r
  | 0, _ => rfl
  | r + 1, h => by rw [x_pend, x_pend, h r (by omega), x_pend_eq (fun j hj => h j (by omega))]
theorem x_pend_len (σ : os_St) : ∀ (r : Nat), (x_pend σ r).length = r
  | 0 => rfl
  | r + 1 => by rw [x_pend, List.length_cons, x_pend_len σ r]
theorem x_ix15 (y : Int32) : os_ix (y &&& 15) < 16 := os_vpn (pk_andIn y (m := 15) 4 (by decide) (by decide))
theorem x_ix3 (y : Int32) : os_ix (y &&& 3) < 4 := os_vpn (pk_andIn y (m := 3) 2 (by decide) (by decide))
theorem hs_kid_ti {ρ : os_St} {p : Nat} {s : Int32} {k : Nat} {x : Nat × Nat} (h : x ∈ hs_kid ρ p s k) : x.2 / 64 = k / 64 + os_ix (ρ 1 p) ∧ x.1 = os_ix (ρ 0 p) ∧ x.2 % 4 + 1 = k % 4 := by
  unfold hs_kid at h
  split at h
  · rename_i q
    rw [List.mem_singleton] at h
    subst h
    have := x_ix15 (s >>> ((2 : Int32) &&& 31))
    dsimp only
    refine ⟨by omega, rfl, by omega⟩
  · cases h
theorem x_nodup {σ : os_St} {l : List Nat} (h : l.Pairwise (fun a b => x_ord σ b < x_ord σ a)) : l.Nodup := h.imp (fun {a b} q e => by subst e; omega)
-- ===== the permutation of G =====
theorem xi_perm {inj : List (Nat × Nat)} {C : Nat → List Nat} {H n x : Nat} {G G' : List Nat} {L : Nat → List Nat} {σ : os_St} (hp : G.Perm G') (h : x_inv inj C H n x G L σ) : x_inv inj C H n x G' L σ := by
  obtain ⟨h1, h2, h3, h4, h5, h6, h7, h8, h9, h10⟩ := h
  refine ⟨h1, h2, h3, h4, h5, h6, fun e he hu hs => ?_, ⟨hp.nodup_iff.mp h8.1, fun g hg => h8.2 g (hp.mem_iff.mpr hg)⟩, fun q k hq hk => ?_, ?_⟩
  · obtain ⟨a, b, c, d⟩ := h7 e he hu hs
    exact ⟨a, b, fun q => c (hp.mem_iff.mpr q), d⟩
  · rw [h9 q k hq hk, hp.countP_eq]
  · rw [← hp.length_eq]; exact h10
-- ===== undoing: what it writes =====
theorem un_neg {σ : os_St} {b : Nat} (h : σ 12 b < 0) : os_undo σ b = os_undo1 σ b := by rw [os_undo, if_pos (by rw [os_undo_12]; exact h)]
theorem un_pos {σ : os_St} {b : Nat} (h : ¬ σ 12 b < 0) : os_undo σ b = os_push (os_undo1 σ b) b := by rw [os_undo, if_neg (by rw [os_undo_12]; exact h)]
theorem un_k {σ : os_St} {b k : Nat} (h1 : k ≠ 10) (h2 : k ≠ 12) (h3 : k ≠ 13) (h4 : k ≠ 17) (h5 : k ≠ 18) : (os_undo σ b) k = σ k := by
  unfold os_undo
  split <;> simp only [os_push, os_undo1, os_set_k h1, os_set_k h2, os_set_k h3, os_set_k h4, os_set_k h5]
theorem un_10 {σ : os_St} {b : Nat} : (os_undo σ b) 10 = upd (σ 10) b 0 := by
  unfold os_undo
  split <;> simp [os_push, os_undo1, os_set_k, os_set_self]
theorem un_13 {σ : os_St} {b : Nat} : (os_undo σ b) 13 = upd (σ 13) (os_ix (σ 7 b)) (σ 11 b) := by
  unfold os_undo
  split <;> simp [os_push, os_undo1, os_set_k, os_set_self]
theorem un_12n {σ : os_St} {b : Nat} (h : σ 12 b < 0) : (os_undo σ b) 12 = σ 12 := by rw [un_neg h, os_undo_12]
theorem un_17n {σ : os_St} {b : Nat} (h : σ 12 b < 0) : (os_undo σ b) 17 = σ 17 := by rw [un_neg h]; simp [os_undo1, os_set_k]
theorem un_18n {σ : os_St} {b : Nat} (h : σ 12 b < 0) : (os_undo σ b) 18 = σ 18 := by rw [un_neg h, os_undo_18]
theorem un_12s {σ : os_St} {b : Nat} (h : ¬ σ 12 b < 0) : (os_undo σ b) 12 = upd (σ 12) b (-1) := by rw [un_pos h]; simp [os_push, os_undo1, os_set_k, os_set_self]
theorem un_17s {σ : os_St} {b : Nat} (h : ¬ σ 12 b < 0) : (os_undo σ b) 17 = upd (σ 17) (os_ix (σ 18 0)) (σ 12 b) := by rw [un_pos h]; simp [os_push, os_undo1, os_set_k, os_set_self]
theorem un_18s {σ : os_St} {b : Nat} (h : ¬ σ 12 b < 0) : (os_undo σ b) 18 0 = σ 18 0 + 1 := by rw [un_pos h]; simp [os_push, os_undo1, os_set_k, os_set_s]
theorem upd_e (f : Nat → Int32) (k : Nat) (v : Int32) : upd f k v k = v := pk_us
theorem upd_n {f : Nat → Int32} {k j : Nat} {v : Int32} (h : j ≠ k) : upd f k v j = f j := pk_un h
set_option maxHeartbeats 2000000 in
theorem xi_undo {inj : List (Nat × Nat)} {C : Nat → List Nat} {H n x : Nat} {O : List Nat} {L : Nat → List Nat} {σ : os_St} {r p b : Nat} {rest : List Nat} (hI : x_inv inj C H n x (x_pend σ r ++ O) L σ) (hr : σ 18 0 = nI r) (hp : p < 4) (hL : L p = b :: rest) :
    ∃ r', x_inv inj C H n x (x_pend (os_undo σ b) r' ++ O) (fun q => if q = p then rest else L q) (os_undo σ b) ∧ (os_undo σ b) 18 0 = nI r' ∧ ∀ g, g ∈ x_pend (os_undo σ b) r' → g ∈ x_pend σ r ∨ x_ti σ b < x_ti σ g := by
  obtain ⟨h1, h2, h3, h4, h5, h6, h7, h8, h9, h10⟩ := hI
  obtain ⟨hm, hpw, hch⟩ := h4 p hp
  rw [hL] at hm hpw hch
  obtain ⟨hb, hbu, hbd, hbp⟩ := (hm b).mp List.mem_cons_self
  have hpw2 := List.pairwise_cons.mp hpw
  have hbr : b ∉ rest := fun q => by have := hpw2.1 b q; omega
  have f : ∀ k, k ≠ 10 → k ≠ 12 → k ≠ 13 → k ≠ 17 → k ≠ 18 → (os_undo σ b) k = σ k := fun k => un_k
  have e0 := f 0 (by decide) (by decide) (by decide) (by decide) (by decide)
  have e1 := f 1 (by decide) (by decide) (by decide) (by decide) (by decide)
  have e2 := f 2 (by decide) (by decide) (by decide) (by decide) (by decide)
  have e5 := f 5 (by decide) (by decide) (by decide) (by decide) (by decide)
  have e6 := f 6 (by decide) (by decide) (by decide) (by decide) (by decide)
  have e7 := f 7 (by decide) (by decide) (by decide) (by decide) (by decide)
  have e8 := f 8 (by decide) (by decide) (by decide) (by decide) (by decide)
  have e9 := f 9 (by decide) (by decide) (by decide) (by decide) (by decide)
  have e11 := f 11 (by decide) (by decide) (by decide) (by decide) (by decide)
  have ek := x_key_eq e6 e8 e9
  have eo := x_ord_eq e6 e8 e9
  have ep := x_pr_eq e7
  have et := x_ti_eq e6
  have ea := x_at_eq e6 e7 e8 e9
  have epl := x_place_eq e6 e7 e8 e9
  have ekd := x_kid_eq e0 e1 e2
  have eks := x_kids_eq e0 e1 e2
  have e10 : ∀ j, j ≠ b → (os_undo σ b) 10 j = σ 10 j := fun j hj => by rw [un_10, upd_n hj]
  have e10b : (os_undo σ b) 10 b = 0 := by rw [un_10, upd_e]
  have e13 : ∀ q, q ≠ p → (os_undo σ b) 13 q = σ 13 q := fun q hq => by
    rw [un_13, show os_ix (σ 7 b) = p from hbp, upd_n hq]
  have e13p : (os_undo σ b) 13 p = σ 11 b := by
    rw [un_13, show os_ix (σ 7 b) = p from hbp, upd_e]
  have hstk : x_stk C (fun q => if q = p then rest else L q) (os_undo σ b) := by
    intro q hq
    by_cases hqp : q = p
    · subst hqp
      dsimp only
      rw [if_pos rfl]
      refine ⟨fun e => ?_, ?_, ?_⟩
      · rw [e5, ep]
        constructor
        · intro he
          have hne : e ≠ b := fun z => hbr (z ▸ he)
          obtain ⟨a1, a2, a3, a4⟩ := (hm e).mp (List.mem_cons_of_mem _ he)
          exact ⟨a1, a2, by rw [e10 e hne]; exact a3, a4⟩
        · rintro ⟨a1, a2, a3, a4⟩
          have hne : e ≠ b := fun z => a3 (by rw [z, e10b])
          rw [e10 e hne] at a3
          exact (List.mem_cons.mp ((hm e).mpr ⟨a1, a2, a3, a4⟩)).resolve_left hne
      · rw [eo]; exact hpw2.2
      · rw [e13p]
        exact x_chain_eq (fun e _ => ⟨by rw [e11], by rw [ek]⟩) hch.2
    · dsimp only
      rw [if_neg hqp]
      obtain ⟨g1, g2, g3⟩ := h4 q hq
      refine ⟨fun e => ?_, ?_, ?_⟩
      · rw [e5, ep, g1 e]
        constructor
        · rintro ⟨a1, a2, a3, a4⟩
          have hne : e ≠ b := fun z => hqp (by rw [← a4, z, hbp])
          exact ⟨a1, a2, by rw [e10 e hne]; exact a3, a4⟩
        · rintro ⟨a1, a2, a3, a4⟩
          have hne : e ≠ b := fun z => hqp (by rw [← a4, z, hbp])
          rw [e10 e hne] at a3
          exact ⟨a1, a2, a3, a4⟩
      · rw [eo]; exact g2
      · rw [e13 q hqp]
        exact x_chain_eq (fun e _ => ⟨by rw [e11], by rw [ek]⟩) g3
  have hpref : x_pref x (os_undo σ b) := by
    intro d e hd he du eu ed hpe ho
    rw [e5] at du eu
    rw [ep] at hpe
    rw [eo] at ho
    have hne : e ≠ b := fun z => ed (by rw [z, e10b])
    rw [e10 e hne] at ed
    by_cases hdb : d = b
    · subst hdb
      have : e ∈ d :: rest := (hm e).mpr ⟨he, eu, ed, by rw [← hpe]; exact hbp⟩
      have := hpw2.1 e ((List.mem_cons.mp this).resolve_left hne)
      omega
    · rw [e10 d hdb]
      exact h5 d e hd he du eu ed hpe ho
  by_cases hs : σ 12 b < 0
  · -- nothing was sent
    have e12 := un_12n hs
    have epd : x_pend (os_undo σ b) r = x_pend σ r := x_pend_eq (fun j _ => by rw [un_17n hs])
    refine ⟨r, ⟨x_wf_eq e6 e7 e8 e9 h1, x_rules_eq e0 e1 h2, by rw [e5, et]; exact h3, hstk, hpref, ?_, ?_, ?_, ?_, ?_⟩, by rw [un_18n hs]; exact hr, fun g hg => Or.inl (by rw [epd] at hg; exact hg)⟩
    · intro e he hu
      rw [e5] at hu
      rw [e12, e11, ek, ep, ekd, epl]
      by_cases heb : e = b
      · subst heb
        exact ⟨fun _ => hs, fun q => absurd e10b q⟩
      · rw [e10 e heb]
        exact h6 e he hu
    · rw [epd]
      intro e he hu hse
      rw [e5] at hu ⊢
      rw [e12] at hse ⊢
      exact h7 e he hu hse
    · rw [epd, e5]; exact h8
    · rw [epd]
      intro q k hq hk
      have a1 : x_Uf (os_undo σ b) (q, k) = x_Uf σ (q, k) := by funext e; unfold x_Uf; rw [e5, ea]
      have a2 : x_Sf (os_undo σ b) (q, k) = x_Sf σ (q, k) := by funext e; unfold x_Sf; rw [e5, ea, e12]
      rw [a1, a2, eks, ea]
      exact h9 q k hq hk
    · rw [epd]
      have a1 : x_lf (os_undo σ b) = x_lf σ := by funext e; unfold x_lf; rw [e5, e12]
      rw [a1]; exact h10
  · -- what it sent is called back
    obtain ⟨s1, s2, s3, s4⟩ := h7 b hb hbu hs
    have hr96 : r ≤ 96 := by
      have := ls_len h8.1 (fun g hg => (h8.2 g hg).1)
      rw [List.length_append, x_pend_len] at this
      omega
    have hix : os_ix (σ 18 0) = r := by rw [hr]; exact nI_clamp (by omega)
    have e12b : (os_undo σ b) 12 b = -1 := by rw [un_12s hs, upd_e]
    have e12 : ∀ j, j ≠ b → (os_undo σ b) 12 j = σ 12 j := fun j hj => by rw [un_12s hs, upd_n hj]
    have epd : x_pend (os_undo σ b) (r + 1) = os_ix (σ 12 b) :: x_pend σ r := by
      rw [x_pend, un_17s hs, hix, upd_e]
      congr 1
      exact x_pend_eq (fun j hj => by rw [un_17s hs, hix, upd_n (by omega)])
    have hkid := (h6 b hb hbu).2 hbd
    rw [x_place, if_neg hs] at hkid
    have hlate : x_ti σ b < x_ti σ (os_ix (σ 12 b)) := by
      have hin : (x_pr σ (os_ix (σ 12 b)), x_key σ (os_ix (σ 12 b))) ∈ hs_kid σ (x_pr σ b) (hs_step (σ 11 b) (x_key σ b)) (x_key σ b) := by rw [hkid]; exact List.mem_singleton_self _
      have q1 := (hs_kid_ti hin).1
      dsimp only at q1
      rw [x_key_ti h1 (os_vpn s1), x_key_ti h1 hb] at q1
      have := (h2 (x_pr σ b) (by rw [hbp]; exact hp)).2.2
      omega
    refine ⟨r + 1, ⟨x_wf_eq e6 e7 e8 e9 h1, x_rules_eq e0 e1 h2, by rw [e5, et]; exact h3, hstk, hpref, ?_, ?_, ?_, ?_, ?_⟩, by rw [un_18s hs, hr, nI_1], ?_⟩
    · intro e he hu
      rw [e5] at hu
      rw [e11, ek, ep, ekd, epl]
      by_cases heb : e = b
      · subst heb
        exact ⟨fun _ => by rw [e12b]; decide, fun q => absurd e10b q⟩
      · rw [e10 e heb, e12 e heb]
        exact h6 e he hu
    · rw [epd]
      intro e he hu hse
      rw [e5] at hu ⊢
      have heb : e ≠ b := fun z => hse (by rw [z, e12b]; decide)
      rw [e12 e heb] at hse ⊢
      obtain ⟨t1, t2, t3, t4⟩ := h7 e he hu hse
      refine ⟨t1, t2, fun q => ?_, fun e' he' hu' hq => ?_⟩
      · rw [List.cons_append] at q
        rcases List.mem_cons.mp q with q | q
        · have : σ 12 e = σ 12 b := by rw [os_vpe t1 (by omega), os_vpe s1 (by omega), q]
          exact heb (s4 e he hu this)
        · exact t3 q
      · by_cases hb' : e' = b
        · rw [hb', e12b] at hq
          exact absurd (by rw [← hq]; decide) hse
        · rw [e12 e' hb'] at hq
          exact t4 e' he' hu' hq
    · rw [epd, e5, List.cons_append]
      refine ⟨List.nodup_cons.mpr ⟨s3, h8.1⟩, fun g hg => ?_⟩
      rcases List.mem_cons.mp hg with q | q
      · rw [q]; exact ⟨os_vpn s1, s2⟩
      · exact h8.2 g q
    · rw [epd]
      intro q k hq hk
      have a1 : x_Uf (os_undo σ b) (q, k) = x_Uf σ (q, k) := by funext e; unfold x_Uf; rw [e5, ea]
      have hu := os_num_upd (f := x_Sf σ (q, k)) (g := x_Sf (os_undo σ b) (q, k)) (i := b) (n := 96) hb (fun j _ hj => by unfold x_Sf; rw [e5, ea, e12 j hj])
      have g1 : x_Sf (os_undo σ b) (q, k) b = false := by unfold x_Sf; rw [e12b]; simp
      have g2 : x_Sf σ (q, k) b = x_at σ (q, k) (os_ix (σ 12 b)) := by unfold x_Sf; simp [hbu, hs]
      rw [g1, g2] at hu
      rw [a1, eks, ea, List.cons_append, List.countP_cons, h9 q k hq hk]
      simp only [Bool.false_eq_true, if_false] at hu
      omega
    · rw [epd, List.cons_append, List.length_cons]
      have hu := os_num_upd (f := x_lf σ) (g := x_lf (os_undo σ b)) (i := b) (n := 96) hb (fun j _ hj => by unfold x_lf; rw [e5, e12 j hj])
      have g1 : x_lf (os_undo σ b) b = true := by unfold x_lf; rw [e12b, e5]; simp [hbu]
      have g2 : x_lf σ b = false := by unfold x_lf; simp [hs]
      rw [g1, g2] at hu
      simp only [Bool.false_eq_true, if_false, if_true] at hu
      omega
    · intro g hg
      rw [epd] at hg
      rcases List.mem_cons.mp hg with q | q
      · rw [q]; exact Or.inr hlate
      · exact Or.inl q
end
section
/-! THE PLAIN LAW, 4: going back, calling back, arriving -/
theorem os_ixn {n : Nat} (h : n < 2 ^ 31) : os_ix (nI n) = n := nI_clamp h
theorem x_pr_7 {σ : os_St} (hw : x_wf σ) {e p : Nat} (he : e < 96) (h : x_pr σ e = p) : σ 7 e = nI p := by
  rw [← h]
  exact os_vpe (hw e he).1 (by omega)
theorem x_7_pr {σ : os_St} {e p : Nat} (hp : p < 4) (h : σ 7 e = nI p) : x_pr σ e = p := by
  unfold x_pr
  rw [h, os_ixn (by omega)]
theorem xi_head {C L : Nat → List Nat} {σ : os_St} (hw : x_wf σ) (hs : x_stk C L σ) {p : Nat} (hp : p < 4) : os_last σ (nI p) 96 = (L p).head? := by
  obtain ⟨hm, hpw, -⟩ := hs p hp
  cases hl : os_last σ (nI p) 96 with
  | none =>
    cases hL : L p with
    | nil => rfl
    | cons b rest =>
      obtain ⟨a1, a2, a3, a4⟩ := (hm b).mp (by rw [hL]; exact List.mem_cons_self)
      exact absurd ⟨a2, a3, x_pr_7 hw a1 a4⟩ (x_last_none hl b a1)
  | some b' =>
    obtain ⟨c1, c2, c3, c4, c5⟩ := x_last_some hw hl
    have hb' : b' ∈ L p := (hm b').mpr ⟨c1, c2, c3, x_7_pr hp c4⟩
    cases hL : L p with
    | nil => rw [hL] at hb'; cases hb'
    | cons b rest =>
      obtain ⟨a1, a2, a3, a4⟩ := (hm b).mp (by rw [hL]; exact List.mem_cons_self)
      have := c5 b a1 a2 a3 (x_pr_7 hw a1 a4)
      rw [hL] at hb' hpw
      rcases List.mem_cons.mp hb' with q | q
      · rw [q]; rfl
      · have := (List.pairwise_cons.mp hpw).1 b' q
        omega
theorem xi_goF {inj : List (Nat × Nat)} {C : Nat → List Nat} {H m x : Nat} {O : List Nat} {p e : Nat} (hp : p < 4) (he : e < 96) : ∀ (n : Nat) (σ : os_St) (L : Nat → List Nat) (r : Nat), x_inv inj C H m x (x_pend σ r ++ O) L σ → σ 18 0 = nI r → (L p).length ≤ n →
    ∃ (L' : Nat → List Nat) (r' : Nat), x_inv inj C H m x (x_pend (os_goF (nI p) e n σ (L p).head?) r' ++ O) L' (os_goF (nI p) e n σ (L p).head?) ∧ (os_goF (nI p) e n σ (L p).head?) 18 0 = nI r' ∧ (∀ k, k ≠ 10 → k ≠ 12 → k ≠ 13 → k ≠ 17 → k ≠ 18 → (os_goF (nI p) e n σ (L p).head?) k = σ k) ∧ (∀ q, q ≠ p → L' q = L q) ∧ (∀ d, d ∈ L' p ↔ (d ∈ L p ∧ x_ord σ d < x_ord σ e)) ∧ (∀ g, g ∈ x_pend (os_goF (nI p) e n σ (L p).head?) r' → g ∈ x_pend σ r ∨ x_ti σ e < x_ti σ g)
  | 0, σ, L, r, hI, hr, hn => by
    have hL : L p = [] := List.eq_nil_of_length_eq_zero (by omega)
    rw [hL]
    refine ⟨L, r, hI, hr, fun _ _ _ _ _ _ => rfl, fun _ _ => rfl, fun d => ?_, fun g hg => Or.inl hg⟩
    rw [hL]
    simp
  | n + 1, σ, L, r, hI, hr, hn => by
    cases hL : L p with
    | nil =>
      refine ⟨L, r, hI, hr, fun _ _ _ _ _ _ => rfl, fun _ _ => rfl, fun d => ?_, fun g hg => Or.inl hg⟩
      rw [hL]
      simp
    | cons b rest =>
      obtain ⟨hw, -, -, hs, -⟩ := id hI
      obtain ⟨hm, hpw, -⟩ := hs p hp
      rw [hL] at hpw
      have hpw2 := List.pairwise_cons.mp hpw
      obtain ⟨b1, b2, b3, b4⟩ := (hm b).mp (by rw [hL]; exact List.mem_cons_self)
      rw [List.head?_cons, os_goF]
      by_cases hc : b = e ∨ os_soon σ e b = true
      · rw [if_pos hc]
        have hle : x_ord σ e ≤ x_ord σ b := by
          rcases hc with q | q
          · rw [q]; exact Nat.le_refl _
          · exact Nat.le_of_lt ((x_soon hw he b1).mp q)
        obtain ⟨r1, hI1, hr1, hg1⟩ := xi_undo hI hr hp hL
        have f : ∀ k, k ≠ 10 → k ≠ 12 → k ≠ 13 → k ≠ 17 → k ≠ 18 → (os_undo σ b) k = σ k := fun k => un_k
        have e6 := f 6 (by decide) (by decide) (by decide) (by decide) (by decide)
        have e8 := f 8 (by decide) (by decide) (by decide) (by decide) (by decide)
        have e9 := f 9 (by decide) (by decide) (by decide) (by decide) (by decide)
        obtain ⟨L1, hL1e⟩ : ∃ L1 : Nat → List Nat, L1 = fun q => if q = p then rest else L q := ⟨_, rfl⟩
        rw [← hL1e] at hI1
        have hL1 : L1 p = rest := by rw [hL1e]; exact if_pos rfl
        have hL2 : ∀ q, q ≠ p → L1 q = L q := fun q hq => by rw [hL1e]; exact if_neg hq
        have hh := xi_head hI1.1 hI1.2.2.2.1 hp
        rw [hL1] at hh
        obtain ⟨L', r', k1, k2, k3, k4, k5, k6⟩ := xi_goF hp he n (os_undo σ b) L1 r1 hI1 hr1 (by rw [hL1]; rw [hL, List.length_cons] at hn; omega)
        rw [hL1] at k1 k2 k3 k5 k6
        rw [hh]
        refine ⟨L', r', k1, k2, fun k a1 a2 a3 a4 a5 => (k3 k a1 a2 a3 a4 a5).trans (f k a1 a2 a3 a4 a5), fun q hq => ?_, fun d => ?_, fun g hg => ?_⟩
        · rw [k4 q hq]; exact hL2 q hq
        · rw [k5 d, x_ord_eq e6 e8 e9, List.mem_cons]
          constructor
          · rintro ⟨a1, a2⟩; exact ⟨Or.inr a1, a2⟩
          · rintro ⟨a1, a2⟩
            rcases a1 with q | q
            · subst q; omega
            · exact ⟨q, a2⟩
        · rcases k6 g hg with q | q
          · rcases hg1 g q with q | q
            · exact Or.inl q
            · have := x_ord_ti hw he b1 hle
              exact Or.inr (by omega)
          · rw [x_ti_eq e6] at q
            exact Or.inr q
      · rw [if_neg hc]
        have hlt : x_ord σ b < x_ord σ e := by
          rcases Nat.lt_or_ge (x_ord σ e) (x_ord σ b) with q | q
          · exact absurd (Or.inr ((x_soon hw he b1).mpr q)) hc
          · rcases Nat.lt_or_ge (x_ord σ b) (x_ord σ e) with q2 | q2
            · exact q2
            · exact absurd (Or.inl (x_ord_inj b1 he (Nat.le_antisymm q q2))) hc
        refine ⟨L, r, hI, hr, fun _ _ _ _ _ _ => rfl, fun _ _ => rfl, fun d => ⟨fun hd => ⟨hL ▸ hd, ?_⟩, fun hd => hL ▸ hd.1⟩, fun g hg => Or.inl hg⟩
        rw [hL] at hd
        rcases List.mem_cons.mp hd with q | q
        · rw [q]; exact hlt
        · have := hpw2.1 d q
          omega
theorem xi_goBack {inj : List (Nat × Nat)} {C : Nat → List Nat} {H m x : Nat} {O : List Nat} {e : Nat} (he : e < 96) {σ : os_St} {L : Nat → List Nat} {r : Nat} (hI : x_inv inj C H m x (x_pend σ r ++ O) L σ) (hr : σ 18 0 = nI r) :
    ∃ (L' : Nat → List Nat) (r' : Nat), x_inv inj C H m x (x_pend (os_goBack σ e) r' ++ O) L' (os_goBack σ e) ∧ (os_goBack σ e) 18 0 = nI r' ∧ (∀ k, k ≠ 10 → k ≠ 12 → k ≠ 13 → k ≠ 17 → k ≠ 18 → (os_goBack σ e) k = σ k) ∧ (∀ q, q ≠ x_pr σ e → L' q = L q) ∧ (∀ d, d ∈ L' (x_pr σ e) ↔ (d ∈ L (x_pr σ e) ∧ x_ord σ d < x_ord σ e)) ∧ (∀ g, g ∈ x_pend (os_goBack σ e) r' → g ∈ x_pend σ r ∨ x_ti σ e < x_ti σ g) := by
  obtain ⟨hw, -, -, hs, -⟩ := id hI
  have hp : x_pr σ e < 4 := os_vpn (hw e he).1
  obtain ⟨hm, hpw, -⟩ := hs _ hp
  have h7 : σ 7 e = nI (x_pr σ e) := x_pr_7 hw he rfl
  have hlen : (L (x_pr σ e)).length ≤ 96 := ls_len (x_nodup hpw) (fun d hd => ((hm d).mp hd).1)
  have := xi_goF hp he 96 σ L r hI hr hlen
  rw [← xi_head hw hs hp, ← h7] at this
  exact this
theorem xi_cong {inj : List (Nat × Nat)} {C : Nat → List Nat} {H m x : Nat} {G : List Nat} {L : Nat → List Nat} {σ τ : os_St} (h : ∀ k, k < 14 → k ≠ 3 → k ≠ 4 → τ k = σ k) (hI : x_inv inj C H m x G L σ) : x_inv inj C H m x G L τ := by
  obtain ⟨h1, h2, h3, h4, h5, h6, h7, h8, h9, h10⟩ := hI
  have e0 := h 0 (by decide) (by decide) (by decide)
  have e1 := h 1 (by decide) (by decide) (by decide)
  have e2 := h 2 (by decide) (by decide) (by decide)
  have e5 := h 5 (by decide) (by decide) (by decide)
  have e6 := h 6 (by decide) (by decide) (by decide)
  have e7 := h 7 (by decide) (by decide) (by decide)
  have e8 := h 8 (by decide) (by decide) (by decide)
  have e9 := h 9 (by decide) (by decide) (by decide)
  have e10 := h 10 (by decide) (by decide) (by decide)
  have e11 := h 11 (by decide) (by decide) (by decide)
  have e12 := h 12 (by decide) (by decide) (by decide)
  have e13 := h 13 (by decide) (by decide) (by decide)
  have ek := x_key_eq e6 e8 e9
  have eo := x_ord_eq e6 e8 e9
  have ep := x_pr_eq e7
  have et := x_ti_eq e6
  have ea := x_at_eq e6 e7 e8 e9
  have epl := x_place_eq e6 e7 e8 e9
  have ekd := x_kid_eq e0 e1 e2
  have eks := x_kids_eq e0 e1 e2
  refine ⟨x_wf_eq e6 e7 e8 e9 h1, x_rules_eq e0 e1 h2, by rw [e5, et]; exact h3, ?_, ?_, ?_, ?_, by rw [e5]; exact h8, ?_, ?_⟩
  · intro p hp
    obtain ⟨a, b, c⟩ := h4 p hp
    refine ⟨by rw [e5, e10, ep]; exact a, by rw [eo]; exact b, ?_⟩
    rw [e13]
    exact x_chain_eq (fun e _ => ⟨by rw [e11], by rw [ek]⟩) c
  · unfold x_pref; rw [e5, e10, ep, eo]; exact h5
  · unfold x_sent; rw [e5, e10, e12, e11, ek, ep, ekd, epl]; exact h6
  · unfold x_own; rw [e5, e12]; exact h7
  · intro q k hq hk
    have a1 : x_Uf τ (q, k) = x_Uf σ (q, k) := by funext e; unfold x_Uf; rw [e5, ea]
    have a2 : x_Sf τ (q, k) = x_Sf σ (q, k) := by funext e; unfold x_Sf; rw [e5, ea, e12]
    rw [a1, a2, eks, ea]
    exact h9 q k hq hk
  · have a1 : x_lf τ = x_lf σ := by funext e; unfold x_lf; rw [e5, e12]
    rw [a1]; exact h10
/-- an orphan that is not handled goes -/
theorem xi_del {inj : List (Nat × Nat)} {C : Nat → List Nat} {H m x : Nat} {G : List Nat} {L : Nat → List Nat} {σ : os_St} {e : Nat} (hI : x_inv inj C H m x (G ++ [e]) L σ) (hd : σ 10 e = 0) : x_inv inj C H m x G L (os_set σ 5 e 0) := by
  obtain ⟨h1, h2, h3, h4, h5, h6, h7, h8, h9, h10⟩ := hI
  obtain ⟨he, hu⟩ := h8.2 e (List.mem_append_right _ (List.mem_singleton_self _))
  have f : ∀ k, k ≠ 5 → (os_set σ 5 e 0) k = σ k := fun k hk => os_set_k hk
  have e0 := f 0 (by decide)
  have e1 := f 1 (by decide)
  have e2 := f 2 (by decide)
  have e6 := f 6 (by decide)
  have e7 := f 7 (by decide)
  have e8 := f 8 (by decide)
  have e9 := f 9 (by decide)
  have e10 := f 10 (by decide)
  have e11 := f 11 (by decide)
  have e12 := f 12 (by decide)
  have e13 := f 13 (by decide)
  have e5 : ∀ j, j ≠ e → (os_set σ 5 e 0) 5 j = σ 5 j := fun j hj => os_set_i hj
  have e5e : (os_set σ 5 e 0) 5 e = 0 := os_set_s σ 5 e 0
  have e5u : ∀ j, (os_set σ 5 e 0) 5 j ≠ 0 → j ≠ e ∧ σ 5 j ≠ 0 := fun j hj => by
    have hne : j ≠ e := fun q => hj (by rw [q, e5e])
    rw [e5 j hne] at hj
    exact ⟨hne, hj⟩
  have ek := x_key_eq e6 e8 e9
  have eo := x_ord_eq e6 e8 e9
  have ep := x_pr_eq e7
  have et := x_ti_eq e6
  have ea := x_at_eq e6 e7 e8 e9
  have epl := x_place_eq e6 e7 e8 e9
  have ekd := x_kid_eq e0 e1 e2
  have eks := x_kids_eq e0 e1 e2
  have hs : σ 12 e < 0 := (h6 e he hu).1 hd
  have hnd := List.nodup_append.mp h8.1
  have hG : ∀ g, g ∈ G → g ≠ e := fun g hg => hnd.2.2 g hg e (List.mem_singleton_self _)
  refine ⟨x_wf_eq e6 e7 e8 e9 h1, x_rules_eq e0 e1 h2, ?_, ?_, ?_, ?_, ?_, ⟨hnd.1, fun g hg => ?_⟩, ?_, ?_⟩
  · intro d hd2 hdu
    rw [et]
    exact h3 d hd2 (e5u d hdu).2
  · intro p hp
    obtain ⟨a, b, c⟩ := h4 p hp
    refine ⟨fun d => ?_, by rw [eo]; exact b, ?_⟩
    · rw [a d, e10, ep]
      constructor
      · rintro ⟨a1, a2, a3, a4⟩
        have hne : d ≠ e := fun q => a3 (by rw [q]; exact hd)
        exact ⟨a1, by rw [e5 d hne]; exact a2, a3, a4⟩
      · rintro ⟨a1, a2, a3, a4⟩
        exact ⟨a1, (e5u d a2).2, a3, a4⟩
    · rw [e13]
      exact x_chain_eq (fun e _ => ⟨by rw [e11], by rw [ek]⟩) c
  · intro d d2 a1 a2 a3 a4 a5 a6 a7
    rw [e10] at a5 ⊢
    rw [ep] at a6
    rw [eo] at a7
    exact h5 d d2 a1 a2 (e5u d a3).2 (e5u d2 a4).2 a5 a6 a7
  · intro d hd2 hdu
    rw [e10, e12, e11, ek, ep, ekd, epl]
    exact h6 d hd2 (e5u d hdu).2
  · intro d hd2 hdu hse
    rw [e12] at hse ⊢
    obtain ⟨t1, t2, t3, t4⟩ := h7 d hd2 (e5u d hdu).2 hse
    have hne : os_ix (σ 12 d) ≠ e := fun q => t3 (List.mem_append_right _ (by rw [q]; exact List.mem_singleton_self _))
    exact ⟨t1, by rw [e5 _ hne]; exact t2, fun q => t3 (List.mem_append_left _ q), fun d' hd' hu' hq => t4 d' hd' (e5u d' hu').2 hq⟩
  · have := h8.2 g (List.mem_append_left _ hg)
    exact ⟨this.1, by rw [e5 g (hG g hg)]; exact this.2⟩
  · intro q k hq hk
    have h := h9 q k hq hk
    have hU := os_num_upd (f := x_Uf σ (q, k)) (g := x_Uf (os_set σ 5 e 0) (q, k)) (i := e) (n := 96) he (fun j _ hj => by unfold x_Uf; rw [e5 j hj, ea])
    have g1 : x_Uf (os_set σ 5 e 0) (q, k) e = false := by unfold x_Uf; rw [e5e]; simp
    have g2 : x_Uf σ (q, k) e = x_at σ (q, k) e := by unfold x_Uf; simp [hu]
    have hS : os_num (x_Sf (os_set σ 5 e 0) (q, k)) 96 = os_num (x_Sf σ (q, k)) 96 := by
      refine os_num_congr (fun j _ => ?_)
      by_cases hj : j = e
      · subst hj
        unfold x_Sf
        rw [e12]
        simp [hs]
      · unfold x_Sf
        rw [e5 j hj, e12, ea]
    rw [g1, g2] at hU
    rw [List.countP_append, List.countP_singleton] at h
    rw [hS, eks, ea]
    simp only [Bool.false_eq_true, if_false] at hU
    omega
  · rw [List.length_append, List.length_singleton] at h10
    have hU := os_num_upd (f := x_lf σ) (g := x_lf (os_set σ 5 e 0)) (i := e) (n := 96) he (fun j _ hj => by unfold x_lf; rw [e5 j hj, e12])
    have g1 : x_lf (os_set σ 5 e 0) e = false := by unfold x_lf; rw [e5e]; simp
    have g2 : x_lf σ e = true := by unfold x_lf; simp [hu, hs]
    rw [g1, g2] at hU
    simp only [Bool.false_eq_true, if_false, if_true] at hU
    omega
/-- what stands up to the time T is untouched -/
def x_fr (T : Nat) (σ τ : os_St) : Prop := (∀ k, k ≠ 5 → k ≠ 10 → k ≠ 12 → k ≠ 13 → k ≠ 17 → k ≠ 18 → τ k = σ k) ∧ ∀ d, d < 96 → x_ti σ d < T → τ 5 d = σ 5 d ∧ (σ 5 d ≠ 0 → (τ 10 d = 0 ↔ σ 10 d = 0))
theorem x_fr_rf (T : Nat) (σ : os_St) : x_fr T σ σ := ⟨fun _ _ _ _ _ _ _ => rfl, fun _ _ _ => ⟨rfl, fun _ => Iff.rfl⟩⟩
theorem x_fr_tr {T : Nat} {σ τ υ : os_St} (h : x_fr T σ τ) (h2 : x_fr T τ υ) : x_fr T σ υ := by
  refine ⟨fun k a b c d e f => (h2.1 k a b c d e f).trans (h.1 k a b c d e f), fun d hd ht => ?_⟩
  have e6 := h.1 6 (by decide) (by decide) (by decide) (by decide) (by decide) (by decide)
  obtain ⟨a, b⟩ := h.2 d hd ht
  obtain ⟨c, f⟩ := h2.2 d hd (by rw [x_ti_eq e6]; exact ht)
  exact ⟨c.trans a, fun q => (f (by rw [a]; exact q)).trans (b q)⟩
theorem xi_fr_go {inj : List (Nat × Nat)} {C : Nat → List Nat} {H m x x' T : Nat} {G G' : List Nat} {L L' : Nat → List Nat} {σ τ : os_St} {e : Nat} (he : e < 96) (hT : T ≤ x_ti σ e) (hI : x_inv inj C H m x G L σ) (hI' : x_inv inj C H m x' G' L' τ) (hk : ∀ k, k ≠ 10 → k ≠ 12 → k ≠ 13 → k ≠ 17 → k ≠ 18 → τ k = σ k) (h1 : ∀ q, q ≠ x_pr σ e → L' q = L q) (h2 : ∀ d, d ∈ L' (x_pr σ e) ↔ (d ∈ L (x_pr σ e) ∧ x_ord σ d < x_ord σ e)) : x_fr T σ τ := by
  refine ⟨fun k _ b c d e f => hk k b c d e f, fun d hd ht => ?_⟩
  have e5 := hk 5 (by decide) (by decide) (by decide) (by decide) (by decide)
  have e7 := hk 7 (by decide) (by decide) (by decide) (by decide) (by decide)
  refine ⟨by rw [e5], fun hu => ?_⟩
  have hp : x_pr σ d < 4 := os_vpn (hI.1 d hd).1
  have m1 := (hI.2.2.2.1 _ hp).1 d
  have m2 := (hI'.2.2.2.1 _ hp).1 d
  rw [e5, x_pr_eq e7] at m2
  have m3 : d ∈ L' (x_pr σ d) ↔ d ∈ L (x_pr σ d) := by
    by_cases q : x_pr σ d = x_pr σ e
    · rw [q, h2 d]
      exact ⟨fun z => z.1, fun z => ⟨z, x_ord_of_ti hI.1 hd he (by omega)⟩⟩
    · rw [h1 _ q]
  rw [m1, m2] at m3
  constructor
  · intro z
    apply Classical.byContradiction
    intro z2
    exact (m3.mpr ⟨hd, hu, z2, rfl⟩).2.2.1 z
  · intro z
    apply Classical.byContradiction
    intro z2
    exact (m3.mp ⟨hd, hu, z2, rfl⟩).2.2.1 z
theorem xi_cbF {inj : List (Nat × Nat)} {C : Nat → List Nat} {H m T : Nat} : ∀ (n : Nat) (σ : os_St) (L : Nat → List Nat) (r : Nat), x_inv inj C H m 96 (x_pend σ r) L σ → σ 18 0 = nI r → (∀ g, g ∈ x_pend σ r → T ≤ x_ti σ g) →
    ∃ (L' : Nat → List Nat) (r' : Nat), x_inv inj C H m 96 (x_pend (os_cbF n σ) r') L' (os_cbF n σ) ∧ (os_cbF n σ) 18 0 = nI r' ∧ x_fr T σ (os_cbF n σ)
  | 0, σ, L, r, hI, hr, _ => ⟨L, r, hI, hr, x_fr_rf T σ⟩
  | n + 1, σ, L, 0, hI, hr, _ => by
    rw [os_cbF, if_neg (by rw [hr, nI_0]; decide)]
    exact ⟨L, 0, hI, hr, x_fr_rf T σ⟩
  | n + 1, σ, L, r + 1, hI, hr, hT => by
    have hr96 : r + 1 ≤ 96 := by
      have := ls_len hI.2.2.2.2.2.2.2.1.1 (fun g hg => (hI.2.2.2.2.2.2.2.1.2 g hg).1)
      rw [x_pend_len] at this
      exact this
    rw [os_cbF, if_pos (by rw [hr, ← nI_0]; exact nI_lt (by omega) (by omega))]
    have p18 : (os_pop σ) 18 0 = nI r := by simp only [os_pop, os_set_s]; rw [hr, nI_pred]
    have pk : ∀ k, k ≠ 18 → (os_pop σ) k = σ k := fun k hk => by simp only [os_pop, os_set_k hk]
    have htop : os_top σ = os_ix (σ 17 r) := by rw [os_top, p18, os_ixn (by omega), pk 17 (by decide)]
    have epd : x_pend (os_pop σ) r = x_pend σ r := x_pend_eq (fun j _ => by rw [pk 17 (by decide)])
    have hI1 : x_inv inj C H m 96 (x_pend (os_pop σ) r ++ [os_top σ]) L (os_pop σ) := by
      refine xi_cong (σ := σ) (fun k hk _ _ => pk k (by omega)) (xi_perm ?_ hI)
      rw [epd, htop, x_pend]
      exact (List.perm_append_singleton _ _).symm
    have hTe : T ≤ x_ti σ (os_top σ) := hT _ (by rw [htop, x_pend]; exact List.mem_cons_self)
    have eti : x_ti (os_pop σ) = x_ti σ := x_ti_eq (pk 6 (by decide))
    obtain ⟨he, hu⟩ := hI1.2.2.2.2.2.2.2.1.2 (os_top σ) (List.mem_append_right _ (List.mem_singleton_self _))
    have key : ∃ (L2 : Nat → List Nat) (r2 : Nat), x_inv inj C H m 96 (x_pend (os_cb1 σ) r2 ++ [os_top σ]) L2 (os_cb1 σ) ∧ (os_cb1 σ) 18 0 = nI r2 ∧ (os_cb1 σ) 10 (os_top σ) = 0 ∧ x_fr T σ (os_cb1 σ) ∧ ∀ g, g ∈ x_pend (os_cb1 σ) r2 → T ≤ x_ti σ g := by
      have hf0 : x_fr T σ (os_pop σ) := ⟨fun k _ _ _ _ _ f => pk k f, fun d _ _ => ⟨by rw [pk 5 (by decide)], fun _ => by rw [pk 10 (by decide)]⟩⟩
      unfold os_cb1
      split
      · rename_i h0
        refine ⟨L, r, hI1, p18, h0, hf0, fun g hg => hT g ?_⟩
        rw [epd] at hg
        rw [x_pend]
        exact List.mem_cons_of_mem _ hg
      · obtain ⟨L', r', k1, k2, k3, k4, k5, k6⟩ := xi_goBack he hI1 p18
        refine ⟨L', r', k1, k2, ?_, x_fr_tr hf0 (xi_fr_go he (by rw [eti]; exact hTe) hI1 k1 k3 k4 k5), fun g hg => ?_⟩
        · apply Classical.byContradiction
          intro z
          have hp : x_pr (os_pop σ) (os_top σ) < 4 := os_vpn (hI1.1 _ he).1
          have e5 := k3 5 (by decide) (by decide) (by decide) (by decide) (by decide)
          have e7 := k3 7 (by decide) (by decide) (by decide) (by decide) (by decide)
          have := ((k1.2.2.2.1 _ hp).1 (os_top σ)).mpr ⟨he, by rw [e5]; exact hu, z, by rw [x_pr_eq e7]⟩
          have := ((k5 _).mp this).2
          omega
        · rcases k6 g hg with q | q
          · rw [epd] at q
            exact hT g (by rw [x_pend]; exact List.mem_cons_of_mem _ q)
          · rw [eti] at q
            omega
    obtain ⟨L2, r2, k1, k2, k3, k4, k5⟩ := key
    have hI3 := xi_del k1 k3
    have ep3 : x_pend (os_set (os_cb1 σ) 5 (os_top σ) 0) r2 = x_pend (os_cb1 σ) r2 := x_pend_eq (fun j _ => by rw [os_set_k (by decide)])
    have e6 : (os_set (os_cb1 σ) 5 (os_top σ) 0) 6 = σ 6 := by
      rw [os_set_k (by decide)]
      exact k4.1 6 (by decide) (by decide) (by decide) (by decide) (by decide) (by decide)
    have hf3 : x_fr T σ (os_set (os_cb1 σ) 5 (os_top σ) 0) := by
      refine ⟨fun k a b c d e f => by rw [os_set_k a]; exact k4.1 k a b c d e f, fun d hd ht => ?_⟩
      have hne : d ≠ os_top σ := fun q => by rw [q] at ht; omega
      rw [os_set_i hne, os_set_k (by decide)]
      exact k4.2 d hd ht
    rw [← ep3] at hI3
    obtain ⟨L', r', j1, j2, j3⟩ := xi_cbF n _ L2 r2 hI3 (by rw [os_set_k (by decide)]; exact k2) (fun g hg => by
      rw [x_ti_eq e6]
      rw [ep3] at hg
      exact k5 g hg)
    exact ⟨L', r', j1, j2, x_fr_tr hf3 j3⟩
/-- an event comes: what was ahead of it goes back, anti-messages are worked off -/
theorem xi_arrive {inj : List (Nat × Nat)} {C : Nat → List Nat} {H m T c : Nat} {σ : os_St} {L : Nat → List Nat} (hc : c < 96) (hT : T ≤ x_ti σ c) (hI : x_inv inj C H m c [] L σ) (hb : os_bd 96 σ) (h0 : σ 18 0 = 0) :
    ∃ L' : Nat → List Nat, x_inv inj C H m 96 [] L' (os_arrive σ c) ∧ (os_arrive σ c) 18 0 = 0 ∧ os_bd 96 (os_arrive σ c) ∧ x_fr T σ (os_arrive σ c) := by
  obtain ⟨L1, r1, k1, k2, k3, k4, k5, k6⟩ := xi_goBack (r := 0) (O := []) hc hI (by rw [h0, nI_0])
  rw [List.append_nil] at k1
  have e5 := k3 5 (by decide) (by decide) (by decide) (by decide) (by decide)
  have e6 := k3 6 (by decide) (by decide) (by decide) (by decide) (by decide)
  have e7 := k3 7 (by decide) (by decide) (by decide) (by decide) (by decide)
  have e8 := k3 8 (by decide) (by decide) (by decide) (by decide) (by decide)
  have e9 := k3 9 (by decide) (by decide) (by decide) (by decide) (by decide)
  have hI1 : x_inv inj C H m 96 (x_pend (os_goBack σ c) r1) L1 (os_goBack σ c) := by
    obtain ⟨a1, a2, a3, a4, a5, a6⟩ := id k1
    refine ⟨a1, a2, a3, a4, fun d e hd he du eu ed hpe ho => ?_, a6⟩
    rcases a5 d e hd he du eu ed hpe ho with q | q
    · exact Or.inl q
    · exfalso
      subst q
      have hp : x_pr σ d < 4 := os_vpn (hI.1 d hd).1
      rw [x_pr_eq e7] at hpe
      have := ((a4 _ hp).1 e).mpr ⟨he, eu, ed, by rw [x_pr_eq e7]; exact hpe.symm⟩
      have := ((k5 e).mp this).2
      rw [x_ord_eq e6 e8 e9] at ho
      omega
  obtain ⟨L2, r2, j1, j2, j3⟩ := xi_cbF (T := T) 97 (os_goBack σ c) L1 r1 hI1 k2 (fun g hg => by
    rw [x_ti_eq e6]
    rcases k6 g hg with q | q
    · cases q
    · omega)
  have hba := bd_arrive (e := c) hb
  have hr2 : r2 = 0 := by
    have hl := ls_len j1.2.2.2.2.2.2.2.1.1 (fun g hg => (j1.2.2.2.2.2.2.2.1.2 g hg).1)
    rw [x_pend_len] at hl
    have hz : nI r2 = nI 0 := by rw [← j2, nI_0]; exact hba.2
    exact (nI_eq (by omega) (by omega)).mp hz
  subst hr2
  exact ⟨L2, j1, hba.2, hba.1, x_fr_tr (xi_fr_go hc hT hI k1 k3 k4 k5) j3⟩
end
section
/-! THE PLAIN LAW, 5: a new event, handling an event, injecting -/
theorem ls_pw {R S : Nat → Nat → Prop} : ∀ {l : List Nat}, (∀ a b, a ∈ l → b ∈ l → R a b → S a b) → l.Pairwise R → l.Pairwise S
  | [], _, _ => List.Pairwise.nil
  | x :: l, h, hp => by
    have h1 := List.pairwise_cons.mp hp
    exact List.pairwise_cons.mpr ⟨fun b hb => h x b List.mem_cons_self (List.mem_cons_of_mem _ hb) (h1.1 b hb), ls_pw (fun a b ha hb => h a b (List.mem_cons_of_mem _ ha) (List.mem_cons_of_mem _ hb)) h1.2⟩
-- ===== a free place =====
theorem x_freeF {σ : os_St} : ∀ (n e j : Nat), e ≤ j → j ≤ e + n → σ 5 j = 0 → σ 5 (os_freeF σ n e) = 0
  | 0, e, j, h1, h2, h3 => by
    rw [os_freeF]
    have : j = e := by omega
    rw [← this]; exact h3
  | n + 1, e, j, h1, h2, h3 => by
    rw [os_freeF]
    split
    · rename_i q; exact q
    · rename_i q
      have : j ≠ e := fun z => q (by rw [← z]; exact h3)
      exact x_freeF n (e + 1) j (by omega) (by omega) h3
theorem x_free {σ : os_St} (h : os_num (fun e => decide (σ 5 e ≠ 0)) 96 ≤ 95) : σ 5 (os_free σ) = 0 := by
  have : ∃ j, j < 96 ∧ σ 5 j = 0 := by
    apply Classical.byContradiction
    intro q
    have e1 : os_num (fun e => decide (σ 5 e ≠ 0)) 96 = os_num (fun _ => true) 96 := os_num_congr (fun i hi => by
      have : σ 5 i ≠ 0 := fun z => q ⟨i, hi, z⟩
      simpa using this)
    have e2 : os_num (fun _ => true) 96 = 96 := by decide
    omega
  obtain ⟨j, h1, h2⟩ := this
  exact x_freeF 95 0 j (by omega) (by omega) h2
theorem xi_room {inj : List (Nat × Nat)} {C : Nat → List Nat} {H n : Nat} {L : Nat → List Nat} {σ : os_St} (hI : x_inv inj C H n 96 [] L σ) : os_num (fun e => decide (σ 5 e ≠ 0)) 96 + os_num (fun e => x_lf σ e && decide (1 ≤ os_ix (σ 9 e))) 96 ≤ 4 * n := by
  obtain ⟨h1, h2, h3, h4, h5, h6, h7, h8, h9, h10⟩ := hI
  have hl : ∀ e, e < 96 → os_ix (σ 9 e) < 4 := fun e he => os_vpn (h1 e he).2.2.2.1
  have kid : ∀ e, e < 96 → σ 5 e ≠ 0 → ¬ σ 12 e < 0 → os_ix (σ 12 e) < 96 ∧ σ 5 (os_ix (σ 12 e)) ≠ 0 ∧ os_ix (σ 9 (os_ix (σ 12 e))) + 1 = os_ix (σ 9 e) := by
    intro e he hu hs
    obtain ⟨t1, t2, t3, t4⟩ := h7 e he hu hs
    refine ⟨os_vpn t1, t2, ?_⟩
    have hd : σ 10 e ≠ 0 := fun z => hs ((h6 e he hu).1 z)
    have hk := (h6 e he hu).2 hd
    rw [x_place, if_neg hs] at hk
    have hin : (x_pr σ (os_ix (σ 12 e)), x_key σ (os_ix (σ 12 e))) ∈ hs_kid σ (x_pr σ e) (hs_step (σ 11 e) (x_key σ e)) (x_key σ e) := by rw [hk]; exact List.mem_singleton_self _
    have q1 := (hs_kid_ti hin).2.2
    dsimp only at q1
    rw [x_key_li h1 (os_vpn t1), x_key_li h1 he] at q1
    exact q1
  -- by lives
  have a1 := num_s4 (f := fun e => decide (σ 5 e ≠ 0)) (g := fun e => os_ix (σ 9 e)) (n := 96) (fun e he _ => hl e he)
  have a2 := num_s4 (f := x_lf σ) (g := fun e => os_ix (σ 9 e)) (n := 96) (fun e he _ => hl e he)
  have a3 := num_s4 (f := fun e => x_lf σ e && decide (1 ≤ os_ix (σ 9 e))) (g := fun e => os_ix (σ 9 e)) (n := 96) (fun e he _ => hl e he)
  -- used = leaf or with a child
  have split : ∀ v, os_num (fun e => decide (σ 5 e ≠ 0) && decide (os_ix (σ 9 e) = v)) 96 = os_num (fun e => x_lf σ e && decide (os_ix (σ 9 e) = v)) 96 + os_num (fun e => (decide (σ 5 e ≠ 0) && decide (¬ σ 12 e < 0)) && decide (os_ix (σ 9 e) = v)) 96 := by
    intro v
    have : ∀ m, os_num (fun e => decide (σ 5 e ≠ 0) && decide (os_ix (σ 9 e) = v)) m = os_num (fun e => x_lf σ e && decide (os_ix (σ 9 e) = v)) m + os_num (fun e => (decide (σ 5 e ≠ 0) && decide (¬ σ 12 e < 0)) && decide (os_ix (σ 9 e) = v)) m := by
      intro m
      induction m with
      | zero => rfl
      | succ m ih =>
        simp only [os_num]
        rw [ih]
        unfold x_lf
        by_cases b1 : σ 5 m = 0 <;> by_cases b2 : σ 12 m < 0 <;> by_cases b3 : os_ix (σ 9 m) = v <;> simp [b1, b2, b3] <;> omega
    exact this 96
  have par0 : os_num (fun e => (decide (σ 5 e ≠ 0) && decide (¬ σ 12 e < 0)) && decide (os_ix (σ 9 e) = 0)) 96 = 0 := os_num_zero (fun e he => by
    cases hq : ((decide (σ 5 e ≠ 0) && decide (¬ σ 12 e < 0)) && decide (os_ix (σ 9 e) = 0)) with
    | false => rfl
    | true =>
      simp only [Bool.and_eq_true, decide_eq_true_iff] at hq
      have := (kid e he hq.1.1 hq.1.2).2.2
      omega)
  have par : ∀ v, os_num (fun e => (decide (σ 5 e ≠ 0) && decide (¬ σ 12 e < 0)) && decide (os_ix (σ 9 e) = v + 1)) 96 ≤ os_num (fun e => decide (σ 5 e ≠ 0) && decide (os_ix (σ 9 e) = v)) 96 := by
    intro v
    refine num_inj (φ := fun e => os_ix (σ 12 e)) (fun i hi hf => ?_) (fun i j hi hj hf hg hq => ?_)
    · simp only [Bool.and_eq_true, decide_eq_true_iff] at hf ⊢
      have := kid i hi hf.1.1 hf.1.2
      exact ⟨this.1, this.2.1, by omega⟩
    · simp only [Bool.and_eq_true, decide_eq_true_iff] at hf hg
      have b1 := h7 i hi hf.1.1 hf.1.2
      have b2 := h7 j hj hg.1.1 hg.1.2
      exact b2.2.2.2 i hi hf.1.1 (by rw [os_vpe b1.1 (by omega), os_vpe b2.1 (by omega), hq])
  have lf : ∀ v, os_num (fun e => (x_lf σ e && decide (1 ≤ os_ix (σ 9 e))) && decide (os_ix (σ 9 e) = v)) 96 ≤ (if v = 0 then 0 else os_num (fun e => x_lf σ e && decide (os_ix (σ 9 e) = v)) 96) := by
    intro v
    split
    · rename_i q
      rw [os_num_zero]
      · exact Nat.le_refl _
      · intro e _
        cases hq : ((x_lf σ e && decide (1 ≤ os_ix (σ 9 e))) && decide (os_ix (σ 9 e) = v)) with
        | false => rfl
        | true =>
          simp only [Bool.and_eq_true, decide_eq_true_iff] at hq
          omega
    · exact os_num_mono (fun e _ hq => by
        simp only [Bool.and_eq_true, decide_eq_true_iff] at hq ⊢
        exact ⟨hq.1.1, hq.2⟩)
  have s0 := split 0
  have s1 := split 1
  have s2 := split 2
  have s3 := split 3
  have p0 := par 0
  have p1 := par 1
  have p2 := par 2
  have l0 := lf 0
  have l1 := lf 1
  have l2 := lf 2
  have l3 := lf 3
  simp only [Nat.zero_add, Nat.reduceAdd] at p0 p1 p2
  simp only [if_true, Nat.reduceEqDiff, if_false] at l0 l1 l2 l3
  unfold hs_s4 at a1 a2 a3
  dsimp only at a1 a2 a3
  rw [List.length_nil] at h10
  omega
-- ===== a new event: an orphan at first =====
set_option maxHeartbeats 2000000 in
theorem xi_new {inj : List (Nat × Nat)} {C : Nat → List Nat} {H n c : Nat} {L : Nat → List Nat} {σ : os_St} {p t v l : Int32} (hI : x_inv inj C H n 96 [] L σ) (hc : c < 96) (hf : σ 5 c = 0) (hp : vp_in p 4) (ht : vp_in t 127) (hv : vp_in v 16) (hl : vp_in l 4) (htl : os_ix t + 9 * os_ix l ≤ 126) (hH : H ≤ os_ix t) : x_inv inj C H n c [c] L (os_newAt σ c p t v l) := by
  obtain ⟨h1, h2, h3, h4, h5, h6, h7, h8, h9, h10⟩ := hI
  obtain ⟨τ, hτ⟩ : ∃ τ, τ = os_newAt σ c p t v l := ⟨_, rfl⟩
  rw [← hτ]
  have f : ∀ k, k ≠ 5 → k ≠ 6 → k ≠ 7 → k ≠ 8 → k ≠ 9 → k ≠ 10 → k ≠ 12 → τ k = σ k := fun k a1 a2 a3 a4 a5 a6 a7 => by
    rw [hτ]
    simp only [os_newAt, os_set_k a1, os_set_k a2, os_set_k a3, os_set_k a4, os_set_k a5, os_set_k a6, os_set_k a7]
  have g : ∀ k, (k = 5 ∨ k = 6 ∨ k = 7 ∨ k = 8 ∨ k = 9 ∨ k = 10 ∨ k = 12) → ∀ j, j ≠ c → τ k j = σ k j := by
    intro k hk j hj
    rw [hτ]
    rcases hk with rfl | rfl | rfl | rfl | rfl | rfl | rfl <;> simp [os_newAt, os_set_k, os_set_i hj]
  have c5 : τ 5 c = 1 := by rw [hτ]; simp [os_newAt, os_set_k, os_set_s]
  have c6 : τ 6 c = t := by rw [hτ]; simp [os_newAt, os_set_k, os_set_s]
  have c7 : τ 7 c = p := by rw [hτ]; simp [os_newAt, os_set_k, os_set_s]
  have c8 : τ 8 c = v := by rw [hτ]; simp [os_newAt, os_set_k, os_set_s]
  have c9 : τ 9 c = l := by rw [hτ]; simp [os_newAt, os_set_k, os_set_s]
  have c10 : τ 10 c = 0 := by rw [hτ]; simp [os_newAt, os_set_k, os_set_s]
  have c12 : τ 12 c = -1 := by rw [hτ]; simp [os_newAt, os_set_s]
  have g5 := g 5 (by decide)
  have g6 := g 6 (by decide)
  have g7 := g 7 (by decide)
  have g8 := g 8 (by decide)
  have g9 := g 9 (by decide)
  have g10 := g 10 (by decide)
  have g12 := g 12 (by decide)
  have e0 := f 0 (by decide) (by decide) (by decide) (by decide) (by decide) (by decide) (by decide)
  have e1 := f 1 (by decide) (by decide) (by decide) (by decide) (by decide) (by decide) (by decide)
  have e2 := f 2 (by decide) (by decide) (by decide) (by decide) (by decide) (by decide) (by decide)
  have e11 := f 11 (by decide) (by decide) (by decide) (by decide) (by decide) (by decide) (by decide)
  have e13 := f 13 (by decide) (by decide) (by decide) (by decide) (by decide) (by decide) (by decide)
  clear hτ
  have ek : ∀ j, j ≠ c → x_key τ j = x_key σ j := fun j hj => by unfold x_key; rw [g6 j hj, g8 j hj, g9 j hj]
  have eo : ∀ j, j ≠ c → x_ord τ j = x_ord σ j := fun j hj => by unfold x_ord; rw [ek j hj]
  have ep : ∀ j, j ≠ c → x_pr τ j = x_pr σ j := fun j hj => by unfold x_pr; rw [g7 j hj]
  have et : ∀ j, j ≠ c → x_ti τ j = x_ti σ j := fun j hj => by unfold x_ti; rw [g6 j hj]
  have ea : ∀ x j, j ≠ c → x_at τ x j = x_at σ x j := fun x j hj => by unfold x_at; rw [ek j hj, ep j hj]
  have ekd := x_kid_eq e0 e1 e2
  have eks := x_kids_eq e0 e1 e2
  have une : ∀ j, σ 5 j ≠ 0 → j ≠ c := fun j hj q => hj (by rw [q]; exact hf)
  have cu : τ 5 c ≠ 0 := by rw [c5]; decide
  refine ⟨?_, x_rules_eq e0 e1 h2, ?_, ?_, ?_, ?_, ?_, ⟨by simp, fun g0 hg => ?_⟩, ?_, ?_⟩
  · intro e he
    by_cases q : e = c
    · rw [q, c6, c7, c8, c9]; exact ⟨hp, ht, hv, hl, htl⟩
    · rw [g6 e q, g7 e q, g8 e q, g9 e q]; exact h1 e he
  · intro e he hu
    by_cases q : e = c
    · rw [q]; unfold x_ti; rw [c6]; exact hH
    · rw [et e q]; rw [g5 e q] at hu; exact h3 e he hu
  · intro q hq
    obtain ⟨a1, a2, a3⟩ := h4 q hq
    have hne : ∀ d, d ∈ L q → d ≠ c := fun d hd => une d ((a1 d).mp hd).2.1
    refine ⟨fun d => ?_, ls_pw (fun a b ha hb r => by rw [eo a (hne a ha), eo b (hne b hb)]; exact r) a2, ?_⟩
    · by_cases z : d = c
      · subst z
        constructor
        · intro hd; exact absurd rfl (hne d hd)
        · rintro ⟨-, -, b3, -⟩; exact absurd c10 b3
      · rw [a1 d, g5 d z, g10 d z, ep d z]
    · rw [e13]
      exact x_chain_eq (fun e he => ⟨by rw [e11], ek e (hne e he)⟩) a3
  · intro d e hd he du eu ed hpe ho
    by_cases z : d = c
    · exact Or.inr z
    · have z2 : e ≠ c := fun q => ed (by rw [q]; exact c10)
      rw [g5 d z] at du
      rw [g5 e z2] at eu
      rw [g10 e z2] at ed
      rw [ep d z, ep e z2] at hpe
      rw [eo d z, eo e z2] at ho
      rw [g10 d z]
      rcases h5 d e hd he du eu ed hpe ho with q | q
      · exact Or.inl q
      · omega
  · intro e he hu
    by_cases z : e = c
    · rw [z]
      exact ⟨fun _ => by rw [c12]; decide, fun q => absurd c10 q⟩
    · rw [g5 e z] at hu
      rw [g10 e z, g12 e z, e11, ek e z, ep e z, ekd]
      refine ⟨(h6 e he hu).1, fun hd => ?_⟩
      rw [(h6 e he hu).2 hd]
      unfold x_place
      split
      · rfl
      · rename_i q
        have := une _ (h7 e he hu q).2.1
        rw [ek _ this, ep _ this]
  · intro e he hu hs
    have z : e ≠ c := fun q => hs (by rw [q, c12]; decide)
    rw [g5 e z] at hu
    rw [g12 e z] at hs ⊢
    obtain ⟨t1, t2, t3, t4⟩ := h7 e he hu hs
    have := une _ t2
    refine ⟨t1, by rw [g5 _ this]; exact t2, fun q => this (List.mem_singleton.mp q), fun e' he' hu' hq => ?_⟩
    have z' : e' ≠ c := fun q => hs (by rw [← hq, q, c12]; decide)
    rw [g5 e' z'] at hu'
    rw [g12 e' z'] at hq
    exact t4 e' he' hu' hq
  · rw [List.mem_singleton.mp hg]; exact ⟨hc, cu⟩
  · intro q k hq hk
    have h := h9 q k hq hk
    have hU := os_num_upd (f := x_Uf σ (q, k)) (g := x_Uf τ (q, k)) (i := c) (n := 96) hc (fun j _ hj => by unfold x_Uf; rw [g5 j hj, ea _ j hj])
    have u1 : x_Uf τ (q, k) c = x_at τ (q, k) c := by unfold x_Uf; simp [cu]
    have u2 : x_Uf σ (q, k) c = false := by unfold x_Uf; simp [hf]
    have hS : os_num (x_Sf τ (q, k)) 96 = os_num (x_Sf σ (q, k)) 96 := by
      refine os_num_congr (fun j hj => ?_)
      by_cases z : j = c
      · rw [z]; unfold x_Sf; rw [c12]; simp [hf]
      · unfold x_Sf
        rw [g5 j z, g12 j z]
        by_cases b1 : σ 5 j = 0
        · simp [b1]
        · by_cases b2 : σ 12 j < 0
          · simp [b2]
          · rw [ea _ _ (une _ (h7 j hj b1 b2).2.1)]
    rw [u1, u2] at hU
    rw [List.countP_nil] at h
    rw [hS, eks, List.countP_singleton]
    simp only [Bool.false_eq_true, if_false] at hU
    omega
  · have hU := os_num_upd (f := x_lf σ) (g := x_lf τ) (i := c) (n := 96) hc (fun j _ hj => by unfold x_lf; rw [g5 j hj, g12 j hj])
    have u1 : x_lf τ c = true := by unfold x_lf; rw [c12]; simp [cu]
    have u2 : x_lf σ c = false := by unfold x_lf; simp [hf]
    rw [u1, u2] at hU
    rw [List.length_nil] at h10
    rw [List.length_singleton]
    simp only [Bool.false_eq_true, if_false, if_true] at hU
    omega
/-- the orphan is an injected event -/
theorem xi_inj {inj : List (Nat × Nat)} {C : Nat → List Nat} {H n x c : Nat} {L : Nat → List Nat} {σ : os_St} (hI : x_inv inj C H n x [c] L σ) : x_inv (inj ++ [(x_pr σ c, x_key σ c)]) C H (n + 1) x [] L σ := by
  obtain ⟨h1, h2, h3, h4, h5, h6, h7, h8, h9, h10⟩ := hI
  refine ⟨h1, h2, h3, h4, h5, h6, fun e he hu hs => ?_, ⟨List.nodup_nil, fun _ q => absurd q List.not_mem_nil⟩, fun q k hq hk => ?_, ?_⟩
  · obtain ⟨a, b, c, d⟩ := h7 e he hu hs
    exact ⟨a, b, List.not_mem_nil, d⟩
  · rw [h9 q k hq hk, List.count_append, List.countP_singleton, List.countP_nil, List.count_singleton]
    have : (x_at σ (q, k) c = true) ↔ ((x_pr σ c, x_key σ c) == (q, k)) = true := by
      unfold x_at
      rw [Bool.and_eq_true, decide_eq_true_iff, decide_eq_true_iff, beq_iff_eq, Prod.mk.injEq]
    by_cases z : x_at σ (q, k) c = true
    · rw [if_pos z, if_pos (this.mp z)]; omega
    · rw [if_neg z, if_neg (fun w => z (this.mpr w))]; omega
  · rw [List.length_singleton] at h10
    rw [List.length_nil]
    omega
-- ===== an event is handled =====
set_option maxHeartbeats 2000000 in
theorem xi_done {inj : List (Nat × Nat)} {C : Nat → List Nat} {H n x a p : Nat} {G G' : List Nat} {L : Nat → List Nat} {σ τ : os_St} (hI : x_inv inj C H n x G L σ) (ha : a < 96) (hu : σ 5 a ≠ 0) (hd : σ 10 a = 0) (hap : x_pr σ a = p) (hax : a ≠ x)
    (hfst : ∀ d, d < 96 → σ 5 d ≠ 0 → x_pr σ d = p → x_ord σ d < x_ord σ a → σ 10 d ≠ 0)
    (hk : ∀ k, k < 10 → k ≠ 3 → k ≠ 4 → τ k = σ k) (k10 : ∀ j, j ≠ a → τ 10 j = σ 10 j) (k10a : τ 10 a ≠ 0) (k11 : ∀ j, j ≠ a → τ 11 j = σ 11 j) (k11a : τ 11 a = σ 13 p) (k13 : ∀ q, q ≠ p → τ 13 q = σ 13 q) (k13p : τ 13 p = hs_step (σ 13 p) (x_key σ a)) (k12 : ∀ j, j ≠ a → τ 12 j = σ 12 j)
    (hkid : hs_kid σ p (hs_step (σ 13 p) (x_key σ a)) (x_key σ a) = x_place σ (τ 12 a)) (hG : (τ 12 a < 0 ∧ G = G') ∨ ∃ c, τ 12 a = nI c ∧ G = c :: G') :
    x_inv inj C H n x G' (fun q => if q = p then a :: L p else L q) τ := by
  obtain ⟨h1, h2, h3, h4, h5, h6, h7, h8, h9, h10⟩ := hI
  have hp : p < 4 := by rw [← hap]; exact os_vpn (h1 a ha).1
  have e0 := hk 0 (by decide) (by decide) (by decide)
  have e1 := hk 1 (by decide) (by decide) (by decide)
  have e2 := hk 2 (by decide) (by decide) (by decide)
  have e5 := hk 5 (by decide) (by decide) (by decide)
  have e6 := hk 6 (by decide) (by decide) (by decide)
  have e7 := hk 7 (by decide) (by decide) (by decide)
  have e8 := hk 8 (by decide) (by decide) (by decide)
  have e9 := hk 9 (by decide) (by decide) (by decide)
  have ek := x_key_eq e6 e8 e9
  have eo := x_ord_eq e6 e8 e9
  have ep := x_pr_eq e7
  have et := x_ti_eq e6
  have ea := x_at_eq e6 e7 e8 e9
  have epl := x_place_eq e6 e7 e8 e9
  have ekd := x_kid_eq e0 e1 e2
  have eks := x_kids_eq e0 e1 e2
  have hsa : σ 12 a < 0 := (h6 a ha hu).1 hd
  have hGs : ∀ g, g ∈ G' → g ∈ G := by
    intro g hg
    rcases hG with ⟨-, q⟩ | ⟨c, -, q⟩
    · rw [q]; exact hg
    · rw [q]; exact List.mem_cons_of_mem _ hg
  have hnm : ∀ q, q < 4 → a ∉ L q := fun q hq z => ((h4 q hq).1 a |>.mp z).2.2.1 hd
  have hLa : ∀ d, d ∈ L p → x_ord σ d < x_ord σ a := by
    intro d hdl
    obtain ⟨b1, b2, b3, b4⟩ := ((h4 p hp).1 d).mp hdl
    rcases Nat.lt_or_ge (x_ord σ d) (x_ord σ a) with q | q
    · exact q
    · have hne : a ≠ d := fun z => b3 (by rw [← z]; exact hd)
      have : x_ord σ a < x_ord σ d := by
        rcases Nat.lt_or_ge (x_ord σ a) (x_ord σ d) with w | w
        · exact w
        · exact absurd (x_ord_inj ha b1 (Nat.le_antisymm q w)) hne
      rcases h5 a d ha b1 hu b2 b3 (by rw [hap, b4]) this with w | w
      · exact absurd hd w
      · exact absurd w hax
  refine ⟨x_wf_eq e6 e7 e8 e9 h1, x_rules_eq e0 e1 h2, by rw [e5, et]; exact h3, ?_, ?_, ?_, ?_, ?_, ?_, ?_⟩
  · intro q hq
    by_cases hqp : q = p
    · subst hqp
      dsimp only
      rw [if_pos rfl]
      obtain ⟨g1, g2, g3⟩ := h4 q hq
      refine ⟨fun d => ?_, ?_, ?_, ?_⟩
      · rw [List.mem_cons, g1 d, e5, ep]
        constructor
        · rintro (z | ⟨b1, b2, b3, b4⟩)
          · rw [z]; exact ⟨ha, hu, k10a, hap⟩
          · have hne : d ≠ a := fun z => b3 (by rw [z]; exact hd)
            exact ⟨b1, b2, by rw [k10 d hne]; exact b3, b4⟩
        · rintro ⟨b1, b2, b3, b4⟩
          by_cases z : d = a
          · exact Or.inl z
          · rw [k10 d z] at b3
            exact Or.inr ⟨b1, b2, b3, b4⟩
      · rw [eo]
        exact List.pairwise_cons.mpr ⟨hLa, g2⟩
      · rw [k11a, ek]; exact k13p
      · rw [k11a]
        exact x_chain_eq (fun d hdl => ⟨k11 d (fun z => hnm q hq (z ▸ hdl)), by rw [ek]⟩) g3
    · dsimp only
      rw [if_neg hqp]
      obtain ⟨g1, g2, g3⟩ := h4 q hq
      refine ⟨fun d => ?_, by rw [eo]; exact g2, ?_⟩
      · rw [g1 d, e5, ep]
        constructor
        · rintro ⟨b1, b2, b3, b4⟩
          have hne : d ≠ a := fun z => hqp (by rw [← b4, z, hap])
          exact ⟨b1, b2, by rw [k10 d hne]; exact b3, b4⟩
        · rintro ⟨b1, b2, b3, b4⟩
          have hne : d ≠ a := fun z => hqp (by rw [← b4, z, hap])
          rw [k10 d hne] at b3
          exact ⟨b1, b2, b3, b4⟩
      · rw [k13 q hqp]
        exact x_chain_eq (fun d hdl => ⟨k11 d (fun z => hnm q hq (z ▸ hdl)), by rw [ek]⟩) g3
  · intro d e hd2 he du eu ed hpe ho
    rw [e5] at du eu
    rw [ep] at hpe
    rw [eo] at ho
    by_cases z : d = a
    · rw [z]; exact Or.inl k10a
    · rw [k10 d z]
      by_cases z2 : e = a
      · subst z2
        exact Or.inl (hfst d hd2 du (by rw [hpe]; exact hap) ho)
      · rw [k10 e z2] at ed
        exact h5 d e hd2 he du eu ed hpe ho
  · intro e he heu
    rw [e5] at heu
    rw [ek, ep, ekd, epl]
    by_cases z : e = a
    · subst z
      refine ⟨fun q => absurd q k10a, fun _ => ?_⟩
      rw [k11a, hap]
      exact hkid
    · rw [k10 e z, k11 e z, k12 e z]
      exact h6 e he heu
  · intro e he heu hs
    rw [e5] at heu ⊢
    by_cases z : e = a
    · subst z
      rcases hG with ⟨q, -⟩ | ⟨c, q1, q2⟩
      · exact absurd q hs
      · have hcG : c ∈ G := by rw [q2]; exact List.mem_cons_self
        obtain ⟨c96, cu⟩ := h8.2 c hcG
        have hnd := h8.1
        rw [q2] at hnd
        rw [q1, os_ixn (by omega)]
        refine ⟨vp_in_nI c96 (by omega), cu, (List.nodup_cons.mp hnd).1, fun e' he' hu' hq => ?_⟩
        apply Classical.byContradiction
        intro z2
        rw [k12 e' z2] at hq
        have := (h7 e' he' hu' (by rw [hq]; exact os_nneg (by omega))).2.2.1
        rw [hq, os_ixn (by omega)] at this
        exact this hcG
    · rw [k12 e z] at hs ⊢
      obtain ⟨t1, t2, t3, t4⟩ := h7 e he heu hs
      refine ⟨t1, t2, fun q => t3 (hGs _ q), fun e' he' hu' hq => ?_⟩
      by_cases z2 : e' = a
      · exfalso
        rw [z2] at hq
        rcases hG with ⟨q, -⟩ | ⟨c, q1, q2⟩
        · exact hs (by rw [← hq]; exact q)
        · have hcG : c ∈ G := by rw [q2]; exact List.mem_cons_self
          have c96 := (h8.2 c hcG).1
          rw [← hq, q1, os_ixn (by omega)] at t3
          exact t3 hcG
      · rw [k12 e' z2] at hq
        exact t4 e' he' hu' hq
  · rw [e5]
    rcases hG with ⟨-, q⟩ | ⟨c, -, q⟩
    · rw [← q]; exact h8
    · have hnd := h8.1
      rw [q] at hnd
      exact ⟨(List.nodup_cons.mp hnd).2, fun g hg => h8.2 g (hGs g hg)⟩
  · intro q k hq hk2
    have h := h9 q k hq hk2
    have a1 : x_Uf τ (q, k) = x_Uf σ (q, k) := by funext e; unfold x_Uf; rw [e5, ea]
    have hS := os_num_upd (f := x_Sf σ (q, k)) (g := x_Sf τ (q, k)) (i := a) (n := 96) ha (fun j _ hj => by unfold x_Sf; rw [e5, ea, k12 j hj])
    have u2 : x_Sf σ (q, k) a = false := by unfold x_Sf; simp [hsa]
    rw [u2] at hS
    rw [a1, eks, ea]
    simp only [Bool.false_eq_true, if_false] at hS
    rcases hG with ⟨g1, g2⟩ | ⟨c, g1, g2⟩
    · have u1 : x_Sf τ (q, k) a = false := by unfold x_Sf; simp [g1]
      rw [u1] at hS
      simp only [Bool.false_eq_true, if_false] at hS
      rw [← g2]
      omega
    · have c96 := (h8.2 c (by rw [g2]; exact List.mem_cons_self)).1
      have u1 : x_Sf τ (q, k) a = x_at σ (q, k) c := by
        unfold x_Sf
        rw [g1, os_ixn (by omega), e5, ea]
        simp [hu, os_nneg (show c < 2 ^ 31 by omega)]
      rw [u1] at hS
      rw [g2, List.countP_cons] at h
      omega
  · have hU := os_num_upd (f := x_lf σ) (g := x_lf τ) (i := a) (n := 96) ha (fun j _ hj => by unfold x_lf; rw [e5, k12 j hj])
    have u2 : x_lf σ a = true := by unfold x_lf; simp [hu, hsa]
    rw [u2] at hU
    simp only [if_true] at hU
    rcases hG with ⟨g1, g2⟩ | ⟨c, g1, g2⟩
    · have u1 : x_lf τ a = true := by unfold x_lf; rw [e5]; simp [hu, g1]
      rw [u1] at hU
      simp only [if_true] at hU
      rw [← g2]
      omega
    · have c96 := (h8.2 c (by rw [g2]; exact List.mem_cons_self)).1
      have u1 : x_lf τ a = false := by
        unfold x_lf
        rw [g1]
        simp [os_nneg (show c < 2 ^ 31 by omega)]
      rw [u1] at hU
      simp only [Bool.false_eq_true, if_false] at hU
      rw [g2, List.length_cons] at h10
      omega
end
section
/-! THE PLAIN LAW, 6: handle, inject, work, reach -/
theorem os_set_cong {X Y : os_St} {k k' i : Nat} {v : Int32} (h : X k = Y k) : os_set X k' i v k = os_set Y k' i v k := by
  unfold os_set
  split
  · rename_i q; subst q; rw [h]
  · exact h
theorem na_cong {X Y : os_St} {k c : Nat} {p t v l : Int32} (h : X k = Y k) : os_newAt X c p t v l k = os_newAt Y c p t v l k :=
  os_set_cong (os_set_cong (os_set_cong (os_set_cong (os_set_cong (os_set_cong (os_set_cong h))))))
theorem na_k {X : os_St} {k c : Nat} {p t v l : Int32} (a1 : k ≠ 5) (a2 : k ≠ 6) (a3 : k ≠ 7) (a4 : k ≠ 8) (a5 : k ≠ 9) (a6 : k ≠ 10) (a7 : k ≠ 12) : os_newAt X c p t v l k = X k := by
  simp only [os_newAt, os_set_k a1, os_set_k a2, os_set_k a3, os_set_k a4, os_set_k a5, os_set_k a6, os_set_k a7]
theorem na_5 {X : os_St} {c j : Nat} {p t v l : Int32} : os_newAt X c p t v l 5 j = if j = c then 1 else X 5 j := by simp [os_newAt, os_set_k, os_set_if]
theorem na_6 {X : os_St} {c j : Nat} {p t v l : Int32} : os_newAt X c p t v l 6 j = if j = c then t else X 6 j := by simp [os_newAt, os_set_k, os_set_if]
theorem na_7 {X : os_St} {c j : Nat} {p t v l : Int32} : os_newAt X c p t v l 7 j = if j = c then p else X 7 j := by simp [os_newAt, os_set_k, os_set_if]
theorem na_8 {X : os_St} {c j : Nat} {p t v l : Int32} : os_newAt X c p t v l 8 j = if j = c then v else X 8 j := by simp [os_newAt, os_set_k, os_set_if]
theorem na_9 {X : os_St} {c j : Nat} {p t v l : Int32} : os_newAt X c p t v l 9 j = if j = c then l else X 9 j := by simp [os_newAt, os_set_k, os_set_if]
theorem na_10 {X : os_St} {c j : Nat} {p t v l : Int32} : os_newAt X c p t v l 10 j = if j = c then 0 else X 10 j := by simp [os_newAt, os_set_k, os_set_if]
theorem na_12 {X : os_St} {c j : Nat} {p t v l : Int32} : os_newAt X c p t v l 12 j = if j = c then -1 else X 12 j := by simp [os_newAt, os_set_k, os_set_if]
theorem hd_10 {σ : os_St} {a p j : Nat} : (os_hd3 σ a p) 10 j = if j = a then 1 else σ 10 j := by simp [os_hd3, os_hd2, os_hd1, os_set_k, os_set_if]
theorem hd_11 {σ : os_St} {a p j : Nat} : (os_hd3 σ a p) 11 j = if j = a then σ 13 p else σ 11 j := by simp [os_hd3, os_hd2, os_hd1, os_set_k, os_set_if]
theorem hd_13 {σ : os_St} {a p j : Nat} : (os_hd3 σ a p) 13 j = if j = p then σ 13 p * 5 + σ 8 a + 1 else σ 13 j := by simp [os_hd3, os_hd2, os_hd1, os_set_k, os_set_if]
theorem os_free_eq {σ τ : os_St} (h : τ 5 = σ 5) : os_free τ = os_free σ := by
  have : ∀ n e, os_freeF τ n e = os_freeF σ n e := by
    intro n
    induction n with
    | zero => intro e; rfl
    | succ n ih => intro e; rw [os_freeF, os_freeF, h, ih]
  exact this 95 0
/-- the frame of handling a: what stands up to the time T stays, done stays done, nothing new comes up to T -/
def x_fx (T a : Nat) (σ τ : os_St) : Prop := (∀ k, (k < 5 ∨ k = 14 ∨ k = 15 ∨ k = 16) → τ k = σ k) ∧ τ 10 a ≠ 0 ∧ (∀ d, d < 96 → σ 5 d ≠ 0 → x_ti σ d ≤ T → τ 5 d ≠ 0 ∧ x_ti τ d = x_ti σ d ∧ (σ 10 d ≠ 0 → τ 10 d ≠ 0)) ∧ (∀ d, d < 96 → τ 5 d ≠ 0 → x_ti τ d ≤ T → σ 5 d ≠ 0 ∧ x_ti σ d = x_ti τ d)
theorem x_step {σ : os_St} (hw : x_wf σ) {a : Nat} (ha : a < 96) (s : Int32) : s * 5 + σ 8 a + 1 = hs_step s (x_key σ a) := by
  unfold hs_step
  rw [x_key_va hw ha, ← os_vpe (hw a ha).2.2.1 (by omega)]
set_option maxHeartbeats 2000000 in
theorem xi_handle {inj : List (Nat × Nat)} {C : Nat → List Nat} {H n a : Nat} {L : Nat → List Nat} {σ : os_St} (hI : x_inv inj C H n 96 [] L σ) (hn : n ≤ 24) (hb : os_bd 96 σ) (h0 : σ 18 0 = 0) (ha : a < 96) (hu : σ 5 a ≠ 0) (hd : σ 10 a = 0) (hf : ∀ d, d < 96 → σ 5 d ≠ 0 → σ 10 d = 0 → x_pr σ d = x_pr σ a → x_ord σ a ≤ x_ord σ d) :
    ∃ L' : Nat → List Nat, x_inv inj C H n 96 [] L' (os_handle σ a) ∧ (os_handle σ a) 18 0 = 0 ∧ os_bd 96 (os_handle σ a) ∧ x_fx (x_ti σ a) a σ (os_handle σ a) := by
  have hbh := bd_handle hb h0 ha
  have hw := hI.1
  obtain ⟨p, hp⟩ : ∃ p, p = os_ix (σ 7 a) := ⟨_, rfl⟩
  have hap : x_pr σ a = p := hp.symm
  have hp4 : p < 4 := by rw [hp]; exact os_vpn (hw a ha).1
  have hfst : ∀ d, d < 96 → σ 5 d ≠ 0 → x_pr σ d = p → x_ord σ d < x_ord σ a → σ 10 d ≠ 0 := by
    intro d hd1 hd2 hd3 hd4 hd5
    have := hf d hd1 hd2 hd5 (by rw [hd3, hap])
    omega
  have hst := x_step hw ha (σ 13 p)
  have h13 : (os_hd3 σ a p) 13 p = hs_step (σ 13 p) (x_key σ a) := by rw [hd_13, if_pos rfl]; exact hst
  have hk : ∀ k, k ≠ 10 → k ≠ 11 → k ≠ 13 → (os_hd3 σ a p) k = σ k := fun k a1 a2 a3 => os_hd3_k a1 a2 a3
  have h9 : σ 9 a = nI (os_ix (σ 9 a)) := os_vpe (hw a ha).2.2.2.1 (by omega)
  have l4 := os_vpn (hw a ha).2.2.2.1
  have hl0 : (0 < σ 9 a) ↔ 0 < x_key σ a % 4 := by
    rw [x_key_li hw ha, h9, ← nI_0, nI_ltI (by omega) (by omega), os_ixn (by omega)]
  have hhd : os_handle σ a = if 0 < (os_hd3 σ a p) 9 a ∧ ((os_hd3 σ a p) 13 p &&& (os_hd3 σ a p) 2 p) = 0 then os_send (os_hd3 σ a p) a p else os_hd3 σ a p := by rw [hp]; rfl
  rw [hk 9 (by decide) (by decide) (by decide), hk 2 (by decide) (by decide) (by decide), h13] at hhd
  by_cases hc : 0 < σ 9 a ∧ (hs_step (σ 13 p) (x_key σ a) &&& σ 2 p) = 0
  · -- it sends a child
    rw [if_pos hc] at hhd
    have hroom := xi_room hI
    have hlf : 0 < os_num (fun e => x_lf σ e && decide (1 ≤ os_ix (σ 9 e))) 96 := by
      refine os_num_pos ha ?_
      have s0 : σ 12 a < 0 := (hI.2.2.2.2.2.1 a ha hu).1 hd
      have : 1 ≤ os_ix (σ 9 a) := by
        have := hl0.mp hc.1
        rw [x_key_li hw ha] at this
        omega
      unfold x_lf
      simp [hu, s0, this]
    have hfree := x_free (σ := σ) (by omega)
    obtain ⟨c, hcE⟩ : ∃ c, c = os_free σ := ⟨_, rfl⟩
    rw [← hcE] at hfree
    have hc96 : c < 96 := by rw [hcE]; exact os_free_96 σ
    have hac : a ≠ c := fun z => hu (by rw [z]; exact hfree)
    have hcf : os_free (os_hd3 σ a p) = c := by rw [hcE]; exact os_free_eq (hk 5 (by decide) (by decide) (by decide))
    -- the child's numbers
    have hla : 1 ≤ os_ix (σ 9 a) := by
      have := hl0.mp hc.1
      rw [x_key_li hw ha] at this
      omega
    obtain ⟨r1, r2, r3⟩ := hI.2.1 p hp4
    have r2n := os_vpn r2
    have t1 := os_vpn (hw a ha).2.1
    have htl := (hw a ha).2.2.2.2
    have ht : σ 6 a + σ 1 p = nI (os_ix (σ 6 a) + os_ix (σ 1 p)) := by
      rw [← nI_add, ← os_vpe (hw a ha).2.1 (by omega), ← os_vpe r2 (by omega)]
    have hli : σ 9 a - 1 = nI (os_ix (σ 9 a) - 1) := by
      have : σ 9 a = nI (os_ix (σ 9 a) - 1 + 1) := by rw [show os_ix (σ 9 a) - 1 + 1 = os_ix (σ 9 a) by omega]; exact h9
      rw [this, nI_pred, os_ixn (by omega)]
      simp
    have htn : os_ix (σ 6 a + σ 1 p) = os_ix (σ 6 a) + os_ix (σ 1 p) := by rw [ht]; exact os_ixn (by omega)
    have hln : os_ix (σ 9 a - 1) = os_ix (σ 9 a) - 1 := by rw [hli]; exact os_ixn (by omega)
    obtain ⟨s, hs⟩ : ∃ s, s = hs_step (σ 13 p) (x_key σ a) := ⟨_, rfl⟩
    obtain ⟨v, hv⟩ : ∃ v, v = (s >>> ((2 : Int32) &&& 31)) &&& 15 := ⟨_, rfl⟩
    have hv16 : vp_in v 16 := by rw [hv]; exact pk_andIn _ (m := 15) 4 (by decide) (by decide)
    obtain ⟨ν, hν⟩ : ∃ ν, ν = os_newAt σ c (σ 0 p) (σ 6 a + σ 1 p) v (σ 9 a - 1) := ⟨_, rfl⟩
    have hIν : x_inv inj C H n c [c] L ν := by
      rw [hν]
      refine xi_new hI hc96 hfree r1 (by rw [ht]; exact vp_in_nI (by omega) (by omega)) hv16 (by rw [hli]; exact vp_in_nI (by omega) (by omega)) (by rw [htn, hln]; omega) ?_
      rw [htn]
      have := hI.2.2.1 a ha hu
      unfold x_ti at this
      omega
    obtain ⟨ψ, hψ⟩ : ∃ ψ, ψ = os_set (os_child (os_hd3 σ a p) a p) 12 a (nI c) := ⟨_, rfl⟩
    have hτ : os_handle σ a = os_arrive ψ c := by rw [hhd, hψ, os_send, hcf]
    have hch : os_child (os_hd3 σ a p) a p = os_newAt (os_hd3 σ a p) c (σ 0 p) (σ 6 a + σ 1 p) v (σ 9 a - 1) := by
      rw [os_child, hcf, hk 0 (by decide) (by decide) (by decide), hk 6 (by decide) (by decide) (by decide), hk 1 (by decide) (by decide) (by decide), hk 9 (by decide) (by decide) (by decide), h13, hv, hs]
    rw [hch] at hψ
    -- ψ against ν
    have pk : ∀ k, k ≠ 10 → k ≠ 11 → k ≠ 12 → k ≠ 13 → ψ k = ν k := fun k a1 a2 a3 a4 => by
      rw [hψ, hν, os_set_k a3]
      exact na_cong (hk k a1 a2 a4)
    have p10 : ∀ j, ψ 10 j = if j = c then 0 else if j = a then 1 else σ 10 j := fun j => by
      rw [hψ, os_set_k (by decide), na_10, hd_10]
    have p11 : ∀ j, ψ 11 j = if j = a then σ 13 p else σ 11 j := fun j => by
      rw [hψ, os_set_k (by decide), na_k (by decide) (by decide) (by decide) (by decide) (by decide) (by decide) (by decide), hd_11]
    have p13 : ∀ j, ψ 13 j = if j = p then s else σ 13 j := fun j => by
      rw [hψ, os_set_k (by decide), na_k (by decide) (by decide) (by decide) (by decide) (by decide) (by decide) (by decide), hd_13, hst, hs]
    have p12 : ∀ j, ψ 12 j = if j = a then nI c else if j = c then -1 else σ 12 j := fun j => by
      rw [hψ, os_set_if, na_12, hk 12 (by decide) (by decide) (by decide)]
    have pO : ∀ k, (k < 5 ∨ k = 14 ∨ k = 15 ∨ k = 16 ∨ k = 17 ∨ k = 18) → ψ k = σ k := fun k hk2 => by
      rw [pk k (by omega) (by omega) (by omega) (by omega), hν]
      exact na_k (by omega) (by omega) (by omega) (by omega) (by omega) (by omega) (by omega)
    have n5 : ∀ j, j ≠ c → ν 5 j = σ 5 j := fun j hj => by rw [hν, na_5, if_neg hj]
    have n6 : ∀ j, j ≠ c → ν 6 j = σ 6 j := fun j hj => by rw [hν, na_6, if_neg hj]
    have n7 : ∀ j, j ≠ c → ν 7 j = σ 7 j := fun j hj => by rw [hν, na_7, if_neg hj]
    have n8 : ∀ j, j ≠ c → ν 8 j = σ 8 j := fun j hj => by rw [hν, na_8, if_neg hj]
    have n9 : ∀ j, j ≠ c → ν 9 j = σ 9 j := fun j hj => by rw [hν, na_9, if_neg hj]
    have n10 : ∀ j, j ≠ c → ν 10 j = σ 10 j := fun j hj => by rw [hν, na_10, if_neg hj]
    have nka : ∀ j, j ≠ c → x_key ν j = x_key σ j := fun j hj => by unfold x_key; rw [n6 j hj, n8 j hj, n9 j hj]
    have nor : ∀ j, j ≠ c → x_ord ν j = x_ord σ j := fun j hj => by unfold x_ord; rw [nka j hj]
    have npr : ∀ j, j ≠ c → x_pr ν j = x_pr σ j := fun j hj => by unfold x_pr; rw [n7 j hj]
    have nti : ∀ j, j ≠ c → x_ti ν j = x_ti σ j := fun j hj => by unfold x_ti; rw [n6 j hj]
    have n11 : ν 11 = σ 11 := by rw [hν]; exact na_k (by decide) (by decide) (by decide) (by decide) (by decide) (by decide) (by decide)
    have n13 : ν 13 = σ 13 := by rw [hν]; exact na_k (by decide) (by decide) (by decide) (by decide) (by decide) (by decide) (by decide)
    have n2 : ν 2 = σ 2 := by rw [hν]; exact na_k (by decide) (by decide) (by decide) (by decide) (by decide) (by decide) (by decide)
    have n1 : ν 1 = σ 1 := by rw [hν]; exact na_k (by decide) (by decide) (by decide) (by decide) (by decide) (by decide) (by decide)
    have n0 : ν 0 = σ 0 := by rw [hν]; exact na_k (by decide) (by decide) (by decide) (by decide) (by decide) (by decide) (by decide)
    have c6 : ν 6 c = σ 6 a + σ 1 p := by rw [hν, na_6, if_pos rfl]
    have cti : x_ti ν c = x_ti σ a + os_ix (σ 1 p) := by unfold x_ti; rw [c6, htn]
    have cpr : x_pr ν c = os_ix (σ 0 p) := by unfold x_pr; rw [hν, na_7, if_pos rfl]
    have ckey : x_key ν c = (x_key σ a / 64 + os_ix (σ 1 p)) * 64 + os_ix ((s >>> ((2 : Int32) &&& 31)) &&& 15) * 4 + (x_key σ a % 4 - 1) := by
      unfold x_key
      rw [c6, hν, na_8, na_9, if_pos rfl, if_pos rfl, htn, hln, hv]
      have q1 := x_key_ti hw ha
      have q2 := x_key_li hw ha
      unfold x_key x_ti at q1
      unfold x_key at q2
      rw [q1, q2]
    have hkidE : hs_kid ν p (hs_step (ν 13 p) (x_key ν a)) (x_key ν a) = x_place ν (ψ 12 a) := by
      rw [p12, if_pos rfl, x_place, if_neg (os_nneg (by omega)), os_ixn (by omega), nka a hac, n13, ← hs, x_kid_eq n0 n1 n2, hs_kid, if_pos ⟨hl0.mp hc.1, by rw [hs]; exact hc.2⟩, cpr, ckey]
    have hIψ := xi_done (τ := ψ) (G' := []) (p := p) hIν ha (by rw [n5 a hac]; exact hu) (by rw [n10 a hac]; exact hd) (by rw [npr a hac]; exact hap) hac
      (fun d d1 d2 d3 d4 => by
        by_cases z : d = c
        · exfalso
          rw [z] at d4
          have : x_ti ν c ≤ x_ti ν a := x_ord_ti hIν.1 hc96 ha (Nat.le_of_lt d4)
          rw [cti, nti a hac] at this
          omega
        · rw [n5 d z] at d2
          rw [npr d z] at d3
          rw [nor d z, nor a hac] at d4
          rw [n10 d z]
          exact hfst d d1 d2 d3 d4)
      (fun k k1 _ _ => pk k (by omega) (by omega) (by omega) (by omega))
      (fun j hj => by
        rw [p10 j]
        by_cases z : j = c
        · rw [if_pos z, z, hν, na_10, if_pos rfl]
        · rw [if_neg z, if_neg hj, n10 j z])
      (by rw [p10 a, if_neg hac, if_pos rfl]; decide)
      (fun j hj => by rw [p11 j, if_neg hj, n11])
      (by rw [p11 a, if_pos rfl, n13])
      (fun q hq => by rw [p13 q, if_neg hq, n13])
      (by rw [p13 p, if_pos rfl, n13, nka a hac, hs])
      (fun j hj => by rw [p12 j, if_neg hj, hν, na_12])
      hkidE (Or.inr ⟨c, by rw [p12 a, if_pos rfl], rfl⟩)
    have tψ : x_ti ψ = x_ti ν := x_ti_eq (pk 6 (by decide) (by decide) (by decide) (by decide))
    have hbψ : os_bd 96 ψ := by
      have hn1 := bd_new (bd_hd3 hb a p) (by rw [hk 18 (by decide) (by decide) (by decide)]; exact h0) (e := c) (p := σ 0 p) (t := σ 6 a + σ 1 p) (v := v) (l := σ 9 a - 1) r1
      rw [hψ]
      exact (bd_sent hn1.1 hn1.2 hc96).1
    obtain ⟨L', g1, g2, g3, g4⟩ := xi_arrive (T := x_ti σ a + 1) hc96 (by rw [tψ, cti]; omega) hIψ hbψ (by rw [pO 18 (by omega)]; exact h0)
    rw [← hτ] at g1 g2 g3 g4
    have t6 : x_ti (os_handle σ a) = x_ti ψ := x_ti_eq (g4.1 6 (by decide) (by decide) (by decide) (by decide) (by decide) (by decide))
    have q5 : ∀ d, d ≠ c → ψ 5 d = σ 5 d := fun d hdc => by rw [pk 5 (by decide) (by decide) (by decide) (by decide), n5 d hdc]
    refine ⟨L', g1, g2, g3, fun k hk2 => ?_, ?_, fun d d1 d2 d3 => ?_, fun d d1 d2 d3 => ?_⟩
    · rw [g4.1 k (by omega) (by omega) (by omega) (by omega) (by omega) (by omega)]
      exact pO k (by omega)
    · have := (g4.2 a ha (by rw [tψ, nti a hac]; omega)).2 (by rw [q5 a hac]; exact hu)
      intro z
      have := this.mp z
      rw [p10 a, if_neg hac, if_pos rfl] at this
      exact absurd this (by decide)
    · have hdc : d ≠ c := fun z => d2 (by rw [z]; exact hfree)
      have := g4.2 d d1 (by rw [tψ, nti d hdc]; omega)
      refine ⟨by rw [this.1, q5 d hdc]; exact d2, by rw [t6, tψ, nti d hdc], fun z z2 => ?_⟩
      have := (this.2 (by rw [q5 d hdc]; exact d2)).mp z2
      rw [p10 d, if_neg hdc] at this
      split at this
      · exact absurd this (by decide)
      · exact z this
    · rw [t6] at d3 ⊢
      have := g4.2 d d1 (by omega)
      rw [this.1] at d2
      have hdc : d ≠ c := fun z => by
        rw [z, tψ, cti] at d3
        omega
      exact ⟨by rw [← q5 d hdc]; exact d2, by rw [tψ, nti d hdc]⟩
  · -- it sends nothing
    rw [if_neg hc] at hhd
    have hIψ := xi_done (τ := os_hd3 σ a p) (G' := []) (p := p) hI ha hu hd hap (by omega) hfst
      (fun k k1 _ _ => hk k (by omega) (by omega) (by omega))
      (fun j hj => by rw [hd_10, if_neg hj]) (by rw [hd_10, if_pos rfl]; decide)
      (fun j hj => by rw [hd_11, if_neg hj]) (by rw [hd_11, if_pos rfl])
      (fun q hq => by rw [hd_13, if_neg hq]) h13
      (fun j hj => by rw [hk 12 (by decide) (by decide) (by decide)])
      (by
        rw [hk 12 (by decide) (by decide) (by decide), x_place, if_pos ((hI.2.2.2.2.2.1 a ha hu).1 hd), hs_kid, if_neg]
        rintro ⟨z1, z2⟩
        exact hc ⟨hl0.mpr z1, z2⟩)
      (Or.inl ⟨by rw [hk 12 (by decide) (by decide) (by decide)]; exact (hI.2.2.2.2.2.1 a ha hu).1 hd, rfl⟩)
    rw [hhd] at hbh ⊢
    have t6 : x_ti (os_hd3 σ a p) = x_ti σ := x_ti_eq (hk 6 (by decide) (by decide) (by decide))
    have q5 : (os_hd3 σ a p) 5 = σ 5 := hk 5 (by decide) (by decide) (by decide)
    refine ⟨_, hIψ, hbh.2, hbh.1, fun k hk2 => hk k (by omega) (by omega) (by omega), by rw [hd_10, if_pos rfl]; decide, fun d d1 d2 d3 => ⟨by rw [q5]; exact d2, by rw [t6], fun z => ?_⟩, fun d d1 d2 d3 => ⟨by rw [← q5]; exact d2, by rw [t6]⟩⟩
    rw [hd_10]
    split
    · decide
    · exact z
end
section
/-! THE PLAIN LAW, 7: earliest, reach, work, inject -/
theorem x_6 {σ : os_St} (hw : x_wf σ) {e : Nat} (he : e < 96) : σ 6 e = nI (x_ti σ e) := os_vpe (hw e he).2.1 (by omega)
theorem x_ti127 {σ : os_St} (hw : x_wf σ) {e : Nat} (he : e < 96) : x_ti σ e < 127 := os_vpn (hw e he).2.1
theorem x_6i {σ : os_St} (hw : x_wf σ) {e : Nat} (he : e < 96) : (σ 6 e).toInt = (x_ti σ e : Int) := by
  have := x_ti127 hw he
  rw [x_6 hw he, nI_toInt (by omega)]
theorem x_6lt {σ : os_St} (hw : x_wf σ) {a b : Nat} (ha : a < 96) (hb : b < 96) : σ 6 a < σ 6 b ↔ x_ti σ a < x_ti σ b := by
  rw [Int32.lt_iff_toInt_lt, x_6i hw ha, x_6i hw hb]
  omega
theorem x_tlt {σ : os_St} (hw : x_wf σ) {t : Int32} {a : Nat} (ha : a < 96) : t < σ 6 a ↔ t.toInt < (x_ti σ a : Int) := by
  rw [Int32.lt_iff_toInt_lt, x_6i hw ha]
/-- the earliest of the first n processes: what it says -/
def x_eSome (σ : os_St) (T : Int) (n b : Nat) : Prop := b < 96 ∧ σ 5 b ≠ 0 ∧ σ 10 b = 0 ∧ (x_ti σ b : Int) ≤ T ∧ (∀ d, d < 96 → σ 5 d ≠ 0 → σ 10 d = 0 → x_pr σ d = x_pr σ b → x_ord σ b ≤ x_ord σ d) ∧ ∀ d, d < 96 → σ 5 d ≠ 0 → σ 10 d = 0 → x_pr σ d < n → x_ti σ b ≤ x_ti σ d
theorem x_earlF {σ : os_St} (hw : x_wf σ) {t : Int32} : ∀ {n : Nat}, n ≤ 4 → (os_earlF σ t n = none → ∀ d, d < 96 → σ 5 d ≠ 0 → σ 10 d = 0 → x_pr σ d < n → t.toInt < (x_ti σ d : Int)) ∧ (∀ b, os_earlF σ t n = some b → x_eSome σ t.toInt n b)
  | 0, _ => ⟨fun _ d _ _ _ h => by omega, fun b h => by cases h⟩
  | n + 1, hn => by
    obtain ⟨i1, i2⟩ := x_earlF hw (t := t) (n := n) (by omega)
    rw [os_earlF]
    cases hk : os_next σ (nI n) 96 with
    | none =>
      have hno := x_next_none hk
      have hd : ∀ d, d < 96 → σ 5 d ≠ 0 → σ 10 d = 0 → x_pr σ d < n + 1 → x_pr σ d < n := by
        intro d h1 h2 h3 h4
        have : x_pr σ d ≠ n := fun z => hno d h1 ⟨h2, h3, x_pr_7 hw h1 z⟩
        omega
      rw [os_pick2]
      refine ⟨fun h d h1 h2 h3 h4 => i1 h d h1 h2 h3 (hd d h1 h2 h3 h4), fun b h => ?_⟩
      obtain ⟨a1, a2, a3, a4, a5, a6⟩ := i2 b h
      exact ⟨a1, a2, a3, a4, a5, fun d h1 h2 h3 h4 => a6 d h1 h2 h3 (hd d h1 h2 h3 h4)⟩
    | some k =>
      obtain ⟨k1, k2, k3, k4, k5⟩ := x_next_some hw hk
      have kp := x_7_pr (by omega) k4
      have k5' : ∀ d, d < 96 → σ 5 d ≠ 0 → σ 10 d = 0 → x_pr σ d = n → x_ord σ k ≤ x_ord σ d := fun d h1 h2 h3 h4 => k5 d h1 h2 h3 (x_pr_7 hw h1 h4)
      have k6 : ∀ d, d < 96 → σ 5 d ≠ 0 → σ 10 d = 0 → x_pr σ d = n → x_ti σ k ≤ x_ti σ d := fun d h1 h2 h3 h4 => x_ord_ti hw k1 h1 (k5' d h1 h2 h3 h4)
      have kpo : ∀ d, d < 96 → σ 5 d ≠ 0 → σ 10 d = 0 → x_pr σ d = x_pr σ k → x_ord σ k ≤ x_ord σ d := fun d h1 h2 h3 h4 => k5' d h1 h2 h3 (h4.trans kp)
      cases hb : os_earlF σ t n with
      | none =>
        have j1 := i1 hb
        rw [os_pick2]
        split
        · rename_i q
          rw [x_tlt hw k1] at q
          refine ⟨fun _ d h1 h2 h3 h4 => ?_, fun b h => by cases h⟩
          by_cases z : x_pr σ d = n
          · have := k6 d h1 h2 h3 z
            omega
          · exact j1 d h1 h2 h3 (by omega)
        · rename_i q
          rw [x_tlt hw k1] at q
          refine ⟨fun h => (by cases h), fun b h => ?_⟩
          cases h
          refine ⟨k1, k2, k3, by omega, kpo, fun d h1 h2 h3 h4 => ?_⟩
          by_cases z : x_pr σ d = n
          · exact k6 d h1 h2 h3 z
          · have := j1 d h1 h2 h3 (by omega)
            omega
      | some b0 =>
        obtain ⟨a1, a2, a3, a4, a5, a6⟩ := i2 b0 hb
        rw [os_pick2]
        split
        · rename_i q
          rw [x_tlt hw k1] at q
          refine ⟨fun h => (by cases h), fun b h => ?_⟩
          cases h
          refine ⟨a1, a2, a3, a4, a5, fun d h1 h2 h3 h4 => ?_⟩
          by_cases z : x_pr σ d = n
          · have := k6 d h1 h2 h3 z
            omega
          · exact a6 d h1 h2 h3 (by omega)
        · rename_i q
          rw [x_tlt hw k1] at q
          split
          · rename_i q2
            rw [x_6lt hw k1 a1] at q2
            refine ⟨fun h => (by cases h), fun b h => ?_⟩
            cases h
            refine ⟨k1, k2, k3, by omega, kpo, fun d h1 h2 h3 h4 => ?_⟩
            by_cases z : x_pr σ d = n
            · exact k6 d h1 h2 h3 z
            · have := a6 d h1 h2 h3 (by omega)
              omega
          · rename_i q2
            rw [x_6lt hw k1 a1] at q2
            refine ⟨fun h => (by cases h), fun b h => ?_⟩
            cases h
            refine ⟨a1, a2, a3, a4, a5, fun d h1 h2 h3 h4 => ?_⟩
            by_cases z : x_pr σ d = n
            · have := k6 d h1 h2 h3 z
              omega
            · exact a6 d h1 h2 h3 (by omega)
/-- everything up to t is handled -/
def x_rch (T : Int) (σ : os_St) : Prop := ∀ d, d < 96 → σ 5 d ≠ 0 → (x_ti σ d : Int) ≤ T → σ 10 d ≠ 0
/-- the fields that handling never writes -/
def x_kp (σ τ : os_St) : Prop := ∀ k, (k < 5 ∨ k = 14 ∨ k = 15 ∨ k = 16) → τ k = σ k
def x_qui (inj : List (Nat × Nat)) (C : Nat → List Nat) (H n : Nat) (σ : os_St) : Prop := (∃ L : Nat → List Nat, x_inv inj C H n 96 [] L σ) ∧ σ 18 0 = 0 ∧ os_bd 96 σ
def x_dnT (σ : os_St) (t : Nat) : Nat := os_num (fun d => decide (σ 5 d ≠ 0) && (decide (σ 10 d ≠ 0) && decide (x_ti σ d ≤ t))) 96
theorem xi_reachF {inj : List (Nat × Nat)} {C : Nat → List Nat} {H m : Nat} {t : Int32} (hm : m ≤ 24) : ∀ (n i : Nat) (σ : os_St), i + n = 200 → x_qui inj C H m σ → (∃ u, i ≤ x_dnT σ u ∧ ∀ d, d < 96 → σ 5 d ≠ 0 → σ 10 d = 0 → u ≤ x_ti σ d) → x_qui inj C H m (os_reachF t n σ) ∧ x_rch t.toInt (os_reachF t n σ) ∧ x_kp σ (os_reachF t n σ)
  | 0, i, σ, hi, _, ⟨u, hu, _⟩ => by
    have := os_num_le (f := fun d => decide (σ 5 d ≠ 0) && (decide (σ 10 d ≠ 0) && decide (x_ti σ d ≤ u))) 96
    unfold x_dnT at hu
    omega
  | n + 1, i, σ, hi, hq, ⟨u, hu, hu2⟩ => by
    obtain ⟨⟨L, hI⟩, h0, hb⟩ := id hq
    have hw := hI.1
    obtain ⟨e1, e2⟩ := x_earlF hw (t := t) (n := 4) (Nat.le_refl 4)
    cases he : os_earl σ t with
    | none =>
      rw [os_reachF_none he]
      refine ⟨hq, fun d h1 h2 h3 h4 => ?_, fun _ _ => rfl⟩
      have := e1 he d h1 h2 h4 (os_vpn (hw d h1).1)
      omega
    | some a =>
      obtain ⟨a1, a2, a3, a4, a5, a6⟩ := e2 a he
      have a6' : ∀ d, d < 96 → σ 5 d ≠ 0 → σ 10 d = 0 → x_ti σ a ≤ x_ti σ d := fun d h1 h2 h3 => a6 d h1 h2 h3 (os_vpn (hw d h1).1)
      obtain ⟨L', g1, g2, g3, g4, g5, g6, g7⟩ := xi_handle hI hm hb h0 a1 a2 a3 a5
      rw [os_reachF, he, os_hopt]
      have hua := hu2 a a1 a2 a3
      have := xi_reachF (t := t) hm n (i + 1) (os_handle σ a) (by omega) ⟨⟨L', g1⟩, g2, g3⟩ ⟨x_ti σ a, ?_, ?_⟩
      · exact ⟨this.1, this.2.1, fun k hk => (this.2.2 k hk).trans (g4 k hk)⟩
      · -- one more is done
        have hmono : os_num (fun d => decide (σ 5 d ≠ 0) && (decide (σ 10 d ≠ 0) && decide (x_ti σ d ≤ u))) 96 ≤ os_num (fun d => decide (σ 5 d ≠ 0) && (decide (σ 10 d ≠ 0) && decide (x_ti σ d ≤ x_ti σ a))) 96 := os_num_mono (fun d _ hd => by
          simp only [Bool.and_eq_true, decide_eq_true_iff] at hd ⊢
          exact ⟨hd.1, hd.2.1, by omega⟩)
        have hup := os_num_upd (f := fun d => decide (σ 5 d ≠ 0) && (decide (σ 10 d ≠ 0) && decide (x_ti σ d ≤ x_ti σ a))) (g := fun d => (decide (d = a)) || (decide (σ 5 d ≠ 0) && (decide (σ 10 d ≠ 0) && decide (x_ti σ d ≤ x_ti σ a)))) (i := a) (n := 96) a1 (fun j _ hj => by simp [hj])
        have hmono2 : os_num (fun d => (decide (d = a)) || (decide (σ 5 d ≠ 0) && (decide (σ 10 d ≠ 0) && decide (x_ti σ d ≤ x_ti σ a)))) 96 ≤ x_dnT (os_handle σ a) (x_ti σ a) := os_num_mono (fun d hd hdd => by
          simp only [Bool.or_eq_true, Bool.and_eq_true, decide_eq_true_iff] at hdd ⊢
          rcases hdd with z | ⟨z1, z2, z3⟩
          · subst z
            have := g6 d a1 a2 (Nat.le_refl _)
            exact ⟨this.1, g5, by omega⟩
          · have := g6 d hd z1 z3
            exact ⟨this.1, this.2.2 z2, by omega⟩)
        unfold x_dnT at hu
        have z1 : ¬ ((fun d => decide (σ 5 d ≠ 0) && (decide (σ 10 d ≠ 0) && decide (x_ti σ d ≤ x_ti σ a))) a = true) := by simp [a3]
        have z2 : ((fun d => (decide (d = a)) || (decide (σ 5 d ≠ 0) && (decide (σ 10 d ≠ 0) && decide (x_ti σ d ≤ x_ti σ a)))) a = true) := by simp
        rw [if_neg z1, if_pos z2] at hup
        omega
      · intro d h1 h2 h3
        rcases Nat.lt_or_ge (x_ti (os_handle σ a) d) (x_ti σ a) with z | z
        · exfalso
          obtain ⟨w1, w2⟩ := g7 d h1 h2 (by omega)
          have w3 := g6 d h1 w1 (by omega)
          by_cases w4 : σ 10 d = 0
          · have := a6' d h1 w1 w4
            omega
          · exact w3.2.2 w4 h3
        · exact z
theorem xi_reach {inj : List (Nat × Nat)} {C : Nat → List Nat} {H m : Nat} {t : Int32} {σ : os_St} (hm : m ≤ 24) (hq : x_qui inj C H m σ) : x_qui inj C H m (os_reach σ t) ∧ x_rch t.toInt (os_reach σ t) ∧ x_kp σ (os_reach σ t) :=
  xi_reachF hm 200 0 σ rfl hq ⟨0, Nat.zero_le _, fun _ _ _ _ => Nat.zero_le _⟩
theorem xi_workF {inj : List (Nat × Nat)} {C : Nat → List Nat} {H m : Nat} {p : Int32} (hm : m ≤ 24) : ∀ (n : Nat) (σ : os_St), x_qui inj C H m σ → x_qui inj C H m (os_workF p n σ) ∧ x_kp σ (os_workF p n σ)
  | 0, σ, hq => ⟨hq, fun _ _ => rfl⟩
  | n + 1, σ, hq => by
    obtain ⟨⟨L, hI⟩, h0, hb⟩ := id hq
    have hw := hI.1
    rw [os_workF, os_step1]
    cases hk : os_next σ p 96 with
    | none =>
      rw [os_hopt]
      exact xi_workF hm n σ hq
    | some a =>
      obtain ⟨a1, a2, a3, a4, a5⟩ := x_next_some hw hk
      obtain ⟨L', g1, g2, g3, g4, -⟩ := xi_handle hI hm hb h0 a1 a2 a3 (fun d h1 h2 h3 h4 => a5 d h1 h2 h3 (by
        rw [x_pr_7 hw h1 h4, ← x_pr_7 hw a1 rfl]
        exact a4))
      rw [os_hopt]
      have := xi_workF (p := p) hm n (os_handle σ a) ⟨⟨L', g1⟩, g2, g3⟩
      exact ⟨this.1, fun k hk => (this.2 k hk).trans (g4 k hk)⟩
/-- inject: one more injected event -/
theorem xi_inject {inj : List (Nat × Nat)} {C : Nat → List Nat} {H m : Nat} {p t w : Int32} {σ : os_St} (hm : m < 24) (hq : x_qui inj C H m σ) (hp : vp_in p 4) (ht : vp_in t 100) (hH : H ≤ os_ix t) :
    x_qui (inj ++ [(os_ix p, os_ix t * 64 + os_ix (w &&& 15) * 4 + os_ix ((w >>> ((4 : Int32) &&& 31)) &&& 3))]) C H (m + 1) (os_inj3 σ p t w) ∧ (∀ k, (k < 5 ∨ k = 14 ∨ k = 15 ∨ k = 16) → k ≠ 3 → (os_inj3 σ p t w) k = σ k) ∧ (os_inj3 σ p t w) 3 0 = σ 3 0 + 1 := by
  obtain ⟨⟨L, hI⟩, h0, hb⟩ := id hq
  have k1 : ∀ k, k ≠ 3 → (os_inj1 σ) k = σ k := fun k hk => by simp only [os_inj1, os_set_k hk]
  have hI1 : x_inv inj C H m 96 [] L (os_inj1 σ) := xi_cong (σ := σ) (fun k _ a _ => k1 k a) hI
  have hb1 : os_bd 96 (os_inj1 σ) := by refine bd_of hb ?_ ?_ ?_ ?_ ?_ <;> simp [os_inj1, os_set_k]
  have h01 : (os_inj1 σ) 18 0 = 0 := by rw [k1 18 (by decide)]; exact h0
  have hfree : (os_inj1 σ) 5 (os_free (os_inj1 σ)) = 0 := x_free (by have := xi_room hI1; omega)
  have hc96 := os_free_96 (os_inj1 σ)
  generalize hcE : os_free (os_inj1 σ) = c at hfree hc96
  have l4 := x_ix3 (w >>> ((4 : Int32) &&& 31))
  have t100 := os_vpn ht
  have hν : x_inv inj C H m c [c] L (os_inj2 σ p t w) := by
    rw [os_inj2, hcE]
    exact xi_new hI1 hc96 hfree hp (by rw [os_vpe ht (by omega)]; exact vp_in_nI (by omega) (by omega)) (pk_andIn _ (m := 15) 4 (by decide) (by decide)) (pk_andIn _ (m := 3) 2 (by decide) (by decide)) (by omega) hH
  have hi2 := xi_inj hν
  have e7 : x_pr (os_inj2 σ p t w) c = os_ix p := by unfold x_pr; rw [os_inj2, hcE, na_7, if_pos rfl]
  have ek : x_key (os_inj2 σ p t w) c = os_ix t * 64 + os_ix (w &&& 15) * 4 + os_ix ((w >>> ((4 : Int32) &&& 31)) &&& 3) := by unfold x_key; rw [os_inj2, hcE, na_6, na_8, na_9, if_pos rfl, if_pos rfl, if_pos rfl]
  rw [e7, ek] at hi2
  have hb2 := bd_new hb1 h01 (e := c) (p := p) (t := t) (v := w &&& 15) (l := (w >>> ((4 : Int32) &&& 31)) &&& 3) hp
  rw [← hcE, ← os_inj2] at hb2
  obtain ⟨L', g1, g2, g3, g4⟩ := xi_arrive (T := 0) hc96 (Nat.zero_le _) hi2 hb2.1 hb2.2
  have e3 : os_inj3 σ p t w = os_arrive (os_inj2 σ p t w) c := by rw [os_inj3, hcE]
  rw [← e3] at g1 g2 g3 g4
  have kk : ∀ k, (k < 5 ∨ k = 14 ∨ k = 15 ∨ k = 16) → (os_inj3 σ p t w) k = (os_inj1 σ) k := fun k hk => by
    rw [g4.1 k (by omega) (by omega) (by omega) (by omega) (by omega) (by omega), os_inj2]
    exact na_k (by omega) (by omega) (by omega) (by omega) (by omega) (by omega) (by omega)
  refine ⟨⟨⟨L', g1⟩, g2, g3⟩, fun k hk hk3 => by rw [kk k hk, k1 k hk3], ?_⟩
  rw [kk 3 (by omega)]
  simp only [os_inj1, os_set_s]
end
section
/-! THE PLAIN LAW, 8: the history that the table holds; what stateAt, countUpTo and lastTime read of it -/
def x_kl (σ : os_St) (l : List Nat) : List Nat := (l.map (x_key σ)).reverse
def x_ks (C : Nat → List Nat) (σ : os_St) (L : Nat → List Nat) (p : Nat) : List Nat := C p ++ x_kl σ (L p)
def x_hi (σ : os_St) (T : Nat) (l : List Nat) : List Nat := l.filter (fun e => decide (T ≤ x_ti σ e))
def x_lo (σ : os_St) (T : Nat) (l : List Nat) : List Nat := l.filter (fun e => decide (x_ti σ e < T))
def x_sp (σ : os_St) (x : Nat × Nat) (e : Nat) : Bool := decide (¬ σ 12 e < 0) && x_at σ x (os_ix (σ 12 e))
theorem xk_cons1 (σ : os_St) (e : Nat) (r : List Nat) : x_kl σ (e :: r) = x_kl σ r ++ [x_key σ e] := by simp [x_kl]
theorem xk_app (σ : os_St) (a b : List Nat) : x_kl σ (a ++ b) = x_kl σ b ++ x_kl σ a := by simp [x_kl]
theorem xk_mem {σ : os_St} {l : List Nat} {k : Nat} : k ∈ x_kl σ l ↔ ∃ e, e ∈ l ∧ x_key σ e = k := by simp [x_kl]
theorem xk_len (σ : os_St) (l : List Nat) : (x_kl σ l).length = l.length := by simp [x_kl]
theorem x_hi_mem {σ : os_St} {T e : Nat} {l : List Nat} : e ∈ x_hi σ T l ↔ e ∈ l ∧ T ≤ x_ti σ e := by simp [x_hi]
theorem x_lo_mem {σ : os_St} {T e : Nat} {l : List Nat} : e ∈ x_lo σ T l ↔ e ∈ l ∧ x_ti σ e < T := by simp [x_lo]
theorem xk_count (σ : os_St) (k : Nat) : ∀ (l : List Nat), (x_kl σ l).count k = l.countP (fun e => decide (x_key σ e = k))
  | [] => rfl
  | e :: r => by
    rw [xk_cons1, List.count_append, xk_count σ k r, List.countP_cons, List.count_singleton]
    by_cases h : x_key σ e = k
    · simp [h]
    · simp [h]
theorem xk_place {σ : os_St} {s : Int32} {x : Nat × Nat} : (x_place σ s).count x = if (decide (¬ s < 0) && x_at σ x (os_ix s)) = true then 1 else 0 := by
  obtain ⟨q, k⟩ := x
  unfold x_place
  by_cases h : s < 0
  · simp [h]
  · rw [if_neg h, List.count_singleton]
    have : ((x_pr σ (os_ix s), x_key σ (os_ix s)) == (q, k)) = (decide (¬ s < 0) && x_at σ (q, k) (os_ix s)) := by
      rw [Bool.eq_iff_iff, beq_iff_eq, Prod.mk.injEq]
      unfold x_at
      simp [h]
    rw [this]
-- ===== chains =====
theorem xk_run {σ : os_St} {c : List Nat} : ∀ {l : List Nat} {n : Int32}, x_chain σ (hs_run 0 c) l n → n = hs_run 0 (c ++ x_kl σ l)
  | [], n, h => by
    have h2 : n = hs_run 0 c := h
    rw [h2]
    simp [x_kl]
  | e :: r, n, h => by
    obtain ⟨h1, h2⟩ := h
    have ih := xk_run h2
    rw [h1, xk_cons1, ← List.append_assoc, hs_run_app, ← ih]
    rfl
theorem xc_at {σ : os_St} {b : Int32} {e : Nat} {B : List Nat} : ∀ {A : List Nat} {n : Int32}, x_chain σ b (A ++ e :: B) n → x_chain σ b B (σ 11 e)
  | [], n, h => by
    rw [List.nil_append] at h
    obtain ⟨h1, h2⟩ := h
    exact h2
  | a :: A, n, h => by
    rw [List.cons_append] at h
    obtain ⟨h1, h2⟩ := h
    exact xc_at h2
theorem xc_low {σ : os_St} {b : Int32} {B : List Nat} : ∀ {A : List Nat} {n : Int32}, x_chain σ b (A ++ B) n → ∃ n', x_chain σ b B n'
  | [], n, h => by
    rw [List.nil_append] at h
    exact ⟨n, h⟩
  | a :: A, n, h => by
    rw [List.cons_append] at h
    obtain ⟨h1, h2⟩ := h
    exact xc_low h2
theorem xc_high {σ : os_St} {c : List Nat} {B : List Nat} : ∀ {A : List Nat} {n : Int32}, x_chain σ (hs_run 0 c) (A ++ B) n → x_chain σ (hs_run 0 (c ++ x_kl σ B)) A n
  | [], n, h => by
    rw [List.nil_append] at h
    exact xk_run h
  | a :: A, n, h => by
    rw [List.cons_append] at h
    obtain ⟨h1, h2⟩ := h
    exact ⟨h1, xc_high h2⟩
theorem xk_kids {σ : os_St} {p : Nat} {c : List Nat} {x : Nat × Nat} : ∀ {l : List Nat} {n : Int32}, (∀ e, e ∈ l → hs_kid σ p (hs_step (σ 11 e) (x_key σ e)) (x_key σ e) = x_place σ (σ 12 e)) → x_chain σ (hs_run 0 c) l n → (hs_kids σ p 0 (c ++ x_kl σ l)).count x = (hs_kids σ p 0 c).count x + l.countP (x_sp σ x)
  | [], n, _, _ => by simp [x_kl]
  | e :: r, n, hk, h => by
    obtain ⟨h1, h2⟩ := h
    have ih := xk_kids (x := x) (fun e he => hk e (List.mem_cons_of_mem _ he)) h2
    have hr := xk_run h2
    have he := hk e List.mem_cons_self
    rw [xk_cons1, ← List.append_assoc, hs_kids_app, List.count_append, ih, ← hr, hs_kids, hs_kids, List.append_nil, he, xk_place, List.countP_cons, x_sp]
    omega
theorem x_stk_kid {C L : Nat → List Nat} {σ : os_St} (h4 : x_stk C L σ) (h6 : x_sent σ) {p : Nat} (hp : p < 4) {e : Nat} (he : e ∈ L p) : hs_kid σ p (hs_step (σ 11 e) (x_key σ e)) (x_key σ e) = x_place σ (σ 12 e) := by
  obtain ⟨a1, a2, a3, a4⟩ := ((h4 p hp).1 e).mp he
  have := (h6 e a1 a2).2 a3
  rw [a4] at this
  exact this
theorem xk_Sf {C L : Nat → List Nat} {σ : os_St} (h1 : x_wf σ) (h4 : x_stk C L σ) (h6 : x_sent σ) (y : Nat × Nat) : os_num (x_Sf σ y) 96 = hs_s4 (fun p => (L p).countP (x_sp σ y)) := by
  rw [num_s4 (g := x_pr σ) (fun e he _ => os_vpn (h1 e he).1)]
  refine hs_s4_congr (fun p hp => ?_)
  rw [ls_num2 (n := 96) (Q := fun e => decide (σ 5 e ≠ 0) && (decide (σ 10 e ≠ 0) && decide (x_pr σ e = p))) (x_nodup (h4 p hp).2.1) (fun e => by rw [(h4 p hp).1 e]; simp only [Bool.and_eq_true, decide_eq_true_iff])]
  refine os_num_congr (fun e he => ?_)
  unfold x_Sf x_sp
  by_cases b1 : σ 5 e = 0
  · simp [b1]
  · by_cases b2 : σ 12 e < 0
    · simp [b2]
    · have b3 : σ 10 e ≠ 0 := fun z => b2 ((h6 e he b1).1 z)
      simp [b1, b2, b3, Bool.and_comm]
theorem x_child_late {σ : os_St} (h1 : x_wf σ) (h2 : x_rules σ) (h6 : x_sent σ) (h7 : x_own [] σ) {e : Nat} (he : e < 96) (hu : σ 5 e ≠ 0) (hs : ¬ σ 12 e < 0) : x_ti σ e < x_ti σ (os_ix (σ 12 e)) := by
  obtain ⟨s1, s2, s3, s4⟩ := h7 e he hu hs
  have hd : σ 10 e ≠ 0 := fun z => hs ((h6 e he hu).1 z)
  have hkid := (h6 e he hu).2 hd
  rw [x_place, if_neg hs] at hkid
  have hin : (x_pr σ (os_ix (σ 12 e)), x_key σ (os_ix (σ 12 e))) ∈ hs_kid σ (x_pr σ e) (hs_step (σ 11 e) (x_key σ e)) (x_key σ e) := by rw [hkid]; exact List.mem_singleton_self _
  have q1 := (hs_kid_ti hin).1
  dsimp only at q1
  rw [x_key_ti h1 (os_vpn s1), x_key_ti h1 he] at q1
  have := (h2 (x_pr σ e) (os_vpn (h1 e he).1)).2.2
  omega
-- ===== the split at a time =====
theorem xk_split {σ : os_St} (hw : x_wf σ) {T : Nat} : ∀ {l : List Nat}, (∀ e, e ∈ l → e < 96) → l.Pairwise (fun a b => x_ord σ b < x_ord σ a) → l = x_hi σ T l ++ x_lo σ T l
  | [], _, _ => rfl
  | a :: l, h, hp => by
    have h1 := List.pairwise_cons.mp hp
    by_cases q : T ≤ x_ti σ a
    · have ih := xk_split hw (T := T) (fun e he => h e (List.mem_cons_of_mem _ he)) h1.2
      have e1 : x_hi σ T (a :: l) = a :: x_hi σ T l := List.filter_cons_of_pos (by simpa using q)
      have e2 : x_lo σ T (a :: l) = x_lo σ T l := List.filter_cons_of_neg (by simpa using q)
      rw [e1, e2, List.cons_append, ← ih]
    · have hall : ∀ e, e ∈ a :: l → x_ti σ e < T := by
        intro e he
        rcases List.mem_cons.mp he with z | z
        · rw [z]; omega
        · have := x_ord_ti hw (h e he) (h a List.mem_cons_self) (Nat.le_of_lt (h1.1 e z))
          omega
      have e1 : x_hi σ T (a :: l) = [] := List.filter_eq_nil_iff.mpr (fun e he => by
        have := hall e he
        simpa using this)
      have e2 : x_lo σ T (a :: l) = a :: l := List.filter_eq_self.mpr (fun e he => by simpa using hall e he)
      rw [e1, e2, List.nil_append]
theorem x_key_lt {σ : os_St} (hw : x_wf σ) {e T : Nat} (he : e < 96) : x_key σ e < T * 64 ↔ x_ti σ e < T := by
  have := x_key_ti hw he
  omega
theorem xk_lt {C L : Nat → List Nat} {σ : os_St} {T H p : Nat} (hw : x_wf σ) (hs : x_stk C L σ) (hp : p < 4) (hC : ∀ k, k ∈ C p → k < H * 64) (hHT : H ≤ T) : hs_lt (T * 64) (x_ks C σ L p) = C p ++ x_kl σ (x_lo σ T (L p)) := by
  obtain ⟨hm, hpw, -⟩ := hs p hp
  have hl : ∀ e, e ∈ L p → e < 96 := fun e he => ((hm e).mp he).1
  have e := xk_split hw (T := T) hl hpw
  have e2 : x_kl σ (L p) = x_kl σ (x_lo σ T (L p)) ++ x_kl σ (x_hi σ T (L p)) := by rw [← xk_app, ← e]
  have a1 : hs_lt (T * 64) (C p) = C p := hs_lt_all (fun k hk => by have := hC k hk; omega)
  have a2 : hs_lt (T * 64) (x_kl σ (x_lo σ T (L p))) = x_kl σ (x_lo σ T (L p)) := hs_lt_all (fun k hk => by
    obtain ⟨d, hd, rfl⟩ := xk_mem.mp hk
    obtain ⟨g1, g2⟩ := x_lo_mem.mp hd
    exact (x_key_lt hw (hl d g1)).mpr g2)
  have a3 : hs_lt (T * 64) (x_kl σ (x_hi σ T (L p))) = [] := hs_lt_nil (fun k hk => by
    obtain ⟨d, hd, rfl⟩ := xk_mem.mp hk
    obtain ⟨g1, g2⟩ := x_hi_mem.mp hd
    have := x_key_lt hw (hl d g1) (T := T)
    omega)
  rw [x_ks, e2, hs_lt_app, hs_lt_app, a1, a2, a3, List.append_nil]
/-- the table's history is consistent up to K, if all below K is handled -/
theorem xk_cons {inj : List (Nat × Nat)} {C L : Nat → List Nat} {H n K : Nat} {σ : os_St} (hI : x_inv inj C H n 96 [] L σ) (hC : ∀ p, p < 4 → ∀ k, k ∈ C p → k < H * 64) (hc : hs_cons σ inj (H * 64) C) (hr : ∀ d, d < 96 → σ 5 d ≠ 0 → x_key σ d < K → σ 10 d ≠ 0) : hs_cons σ inj K (x_ks C σ L) := by
  obtain ⟨h1, h2, h3, h4, h5, h6, h7, h8, h9, h10⟩ := hI
  have hlow : ∀ e, e < 96 → σ 5 e ≠ 0 → H * 64 ≤ x_key σ e := by
    intro e he hu
    have a := h3 e he hu
    have b := x_key_ti h1 he
    omega
  have hL : ∀ p, p < 4 → ∀ e, e ∈ L p → e < 96 ∧ σ 5 e ≠ 0 := fun p hp e he => by
    have := ((h4 p hp).1 e).mp he
    exact ⟨this.1, this.2.1⟩
  refine ⟨fun p hp => ?_, fun q hq k hk => ?_⟩
  · unfold hs_srt x_ks
    refine List.pairwise_append.mpr ⟨hc.1 p hp, ?_, fun a ha b hb => ?_⟩
    · unfold x_kl
      rw [List.pairwise_reverse, List.pairwise_map]
      exact ls_pw (fun a b ha hb r => x_ord_key (hL p hp b hb).1 (hL p hp a ha).1 (Nat.le_of_lt r)) (h4 p hp).2.1
    · obtain ⟨d, hd, rfl⟩ := xk_mem.mp hb
      have g1 := hC p hp a ha
      have g2 := hlow d (hL p hp d hd).1 (hL p hp d hd).2
      omega
  · have hkids : hs_s4 (fun p => (hs_kids σ p 0 (x_ks C σ L p)).count (q, k)) = hs_s4 (fun p => (hs_kids σ p 0 (C p)).count (q, k)) + os_num (x_Sf σ (q, k)) 96 := by
      rw [xk_Sf h1 h4 h6, ← hs_s4_add]
      refine hs_s4_congr (fun p hp => ?_)
      exact xk_kids (fun e he => x_stk_kid h4 h6 hp he) (h4 p hp).2.2
    rw [hkids, x_ks, List.count_append, xk_count]
    rcases Nat.lt_or_ge k (H * 64) with z | z
    · have e1 : (L q).countP (fun e => decide (x_key σ e = k)) = 0 := by
        rw [List.countP_eq_zero]
        intro e he w
        have g := hlow e (hL q hq e he).1 (hL q hq e he).2
        have w2 := of_decide_eq_true w
        omega
      have e2 : os_num (x_Sf σ (q, k)) 96 = 0 := os_num_zero (fun e he => by
        unfold x_Sf
        by_cases b1 : σ 5 e = 0
        · simp [b1]
        · by_cases b2 : σ 12 e < 0
          · simp [b2]
          · obtain ⟨s1, s2, -, -⟩ := h7 e he b1 b2
            have g := hlow _ (os_vpn s1) s2
            have : ¬ x_key σ (os_ix (σ 12 e)) = k := by omega
            unfold x_at
            simp [this])
      rw [e1, e2, hc.2 q hq k z]
      omega
    · have e1 : (C q).count k = 0 := List.count_eq_zero.mpr (fun w => by have := hC q hq k w; omega)
      have e2 : (L q).countP (fun e => decide (x_key σ e = k)) = os_num (x_Uf σ (q, k)) 96 := by
        rw [ls_num2 (n := 96) (Q := fun e => decide (σ 5 e ≠ 0) && (decide (σ 10 e ≠ 0) && decide (x_pr σ e = q))) (x_nodup (h4 q hq).2.1) (fun e => by rw [(h4 q hq).1 e]; simp only [Bool.and_eq_true, decide_eq_true_iff])]
        refine os_num_congr (fun e he => ?_)
        rw [Bool.eq_iff_iff]
        unfold x_Uf x_at
        simp only [Bool.and_eq_true, decide_eq_true_iff]
        constructor
        · rintro ⟨⟨a, b, c⟩, d⟩; exact ⟨a, c, d⟩
        · rintro ⟨a, c, d⟩; exact ⟨⟨a, hr e he a (by omega), c⟩, d⟩
      have e3 := h9 q k hq z
      rw [List.countP_nil] at e3
      rw [e1, e2, e3]
      omega
-- ===== what is read =====
theorem xk_stateAt {C L : Nat → List Nat} {σ : os_St} {T H p : Nat} {t : Int32} (hw : x_wf σ) (hs : x_stk C L σ) (hp : p < 4) (hC : ∀ k, k ∈ C p → k < H * 64) (hHT : H ≤ T) (ht : t.toInt = (T : Int) - 1) : os_stateAt σ (nI p) t = hs_run 0 (C p ++ x_kl σ (x_lo σ T (L p))) := by
  obtain ⟨hm, hpw, hch⟩ := hs p hp
  have hl : ∀ e, e ∈ L p → e < 96 := fun e he => ((hm e).mp he).1
  have e := xk_split hw (T := T) hl hpw
  have hmem : ∀ d, d ∈ x_hi σ T (L p) ↔ d < 96 ∧ σ 5 d ≠ 0 ∧ σ 10 d ≠ 0 ∧ σ 7 d = nI p ∧ t < σ 6 d := by
    intro d
    rw [x_hi_mem, hm d]
    constructor
    · rintro ⟨⟨a1, a2, a3, a4⟩, a5⟩
      exact ⟨a1, a2, a3, x_pr_7 hw a1 a4, by rw [x_tlt hw a1]; omega⟩
    · rintro ⟨a1, a2, a3, a4, a5⟩
      rw [x_tlt hw a1] at a5
      exact ⟨⟨a1, a2, a3, x_7_pr hp a4⟩, by omega⟩
  unfold os_stateAt
  cases hf : os_firstT σ (nI p) t 96 with
  | none =>
    have hnil : x_hi σ T (L p) = [] := List.eq_nil_iff_forall_not_mem.mpr (fun d hd => by
      obtain ⟨a1, a2, a3, a4, a5⟩ := (hmem d).mp hd
      exact x_first_none hf d a1 ⟨a2, a3, a4, a5⟩)
    rw [hnil, List.nil_append] at e
    rw [os_at, os_ixn (by omega), ← e]
    exact xk_run hch
  | some f =>
    obtain ⟨f1, f2, f3, f4, f5, f6⟩ := x_first_some hw hf
    have hfm := (hmem f).mpr ⟨f1, f2, f3, f4, f5⟩
    have hpA : (x_hi σ T (L p)).Pairwise (fun a b => x_ord σ b < x_ord σ a) := List.Pairwise.filter _ hpw
    obtain ⟨A, A', eA⟩ := List.append_of_mem hfm
    have hA' : A' = [] := List.eq_nil_iff_forall_not_mem.mpr (fun d hd => by
      have hd2 : d ∈ x_hi σ T (L p) := by rw [eA]; exact List.mem_append_right _ (List.mem_cons_of_mem _ hd)
      obtain ⟨a1, a2, a3, a4, a5⟩ := (hmem d).mp hd2
      have h6 := f6 d a1 a2 a3 a4 a5
      rw [eA] at hpA
      have h7 := (List.pairwise_cons.mp (List.pairwise_append.mp hpA).2.1).1 d hd
      omega)
    subst hA'
    have e' : L p = A ++ f :: x_lo σ T (L p) := by
      rw [eA] at e
      simpa using e
    have hch2 : x_chain σ (hs_run 0 (C p)) (A ++ f :: x_lo σ T (L p)) (σ 13 p) := by rw [← e']; exact hch
    exact xk_run (xc_at hch2)
theorem x_6le {σ : os_St} (hw : x_wf σ) {T e : Nat} {t : Int32} (he : e < 96) (ht : t.toInt = (T : Int) - 1) : σ 6 e ≤ t ↔ x_ti σ e < T := by
  rw [Int32.le_iff_toInt_le, x_6i hw he]
  omega
theorem os_cntF_num {σ : os_St} {p t : Int32} : ∀ (n : Nat), os_cntF σ p t n = os_num (fun e => decide (σ 5 e ≠ 0 ∧ σ 7 e = p ∧ σ 6 e ≤ t)) n
  | 0 => rfl
  | n + 1 => by
    rw [os_cntF, os_num, os_cntF_num n]
    by_cases h : σ 5 n ≠ 0 ∧ σ 7 n = p ∧ σ 6 n ≤ t
    · rw [if_pos h, if_pos (decide_eq_true h)]
    · rw [if_neg h, if_neg (fun q => h (of_decide_eq_true q)), Nat.add_zero]
/-- everything up to time T - 1 is handled -/
def x_rT (T : Nat) (σ : os_St) : Prop := ∀ d, d < 96 → σ 5 d ≠ 0 → x_ti σ d < T → σ 10 d ≠ 0
theorem xk_cnt {C L : Nat → List Nat} {σ : os_St} {T p : Nat} {t : Int32} (hw : x_wf σ) (hs : x_stk C L σ) (hp : p < 4) (ht : t.toInt = (T : Int) - 1) (hr : x_rT T σ) : os_count σ (nI p) t = nI (x_lo σ T (L p)).length := by
  obtain ⟨hm, hpw, hch⟩ := hs p hp
  unfold os_count
  rw [os_cntF_num, x_lo, ← List.countP_eq_length_filter, ls_num2 (n := 96) (Q := fun e => decide (σ 5 e ≠ 0) && (decide (σ 10 e ≠ 0) && decide (x_pr σ e = p))) (x_nodup hpw) (fun e => by rw [hm e]; simp only [Bool.and_eq_true, decide_eq_true_iff])]
  refine congrArg nI (os_num_congr (fun e he => ?_))
  have h6 := x_6le hw he ht
  rw [Bool.eq_iff_iff]
  simp only [Bool.and_eq_true, decide_eq_true_iff]
  constructor
  · rintro ⟨a, b, c⟩
    exact ⟨⟨a, hr e he a (h6.mp c), x_7_pr hp b⟩, h6.mp c⟩
  · rintro ⟨⟨a, b, c⟩, d⟩
    exact ⟨a, x_pr_7 hw he c, h6.mpr d⟩
-- ===== the last time =====
def hs_last (ks : Nat → List Nat) (v : Int32) : Prop := ∃ m : Nat, v.toInt = (m : Int) - 1 ∧ (∀ p, p < 4 → ∀ k, k ∈ ks p → k / 64 < m) ∧ (m = 0 ∨ ∃ p, p < 4 ∧ ∃ k, k ∈ ks p ∧ k / 64 + 1 = m)
theorem hs_last_uniq {ks ks' : Nat → List Nat} {v v' : Int32} (he : ∀ p, p < 4 → ks p = ks' p) (h : hs_last ks v) (h' : hs_last ks' v') : v = v' := by
  obtain ⟨m, a1, a2, a3⟩ := h
  obtain ⟨m', b1, b2, b3⟩ := h'
  have : m = m' := by
    rcases a3 with a3 | ⟨p, hp, k, hk, a3⟩
    · rcases b3 with b3 | ⟨p, hp, k, hk, b3⟩
      · omega
      · have := a2 p hp k (by rw [he p hp]; exact hk)
        omega
    · rcases b3 with b3 | ⟨p', hp', k', hk', b3⟩
      · have := b2 p hp k (by rw [← he p hp]; exact hk)
        omega
      · have := a2 p' hp' k' (by rw [he p' hp']; exact hk')
        have := b2 p hp k (by rw [← he p hp]; exact hk)
        omega
  exact Int32.toInt_inj.mp (by rw [a1, b1, this])
theorem hs_last_cong {ks ks' : Nat → List Nat} {v : Int32} (he : ∀ p, p < 4 → ks p = ks' p) (h : hs_last ks v) : hs_last ks' v := by
  obtain ⟨m, a1, a2, a3⟩ := h
  refine ⟨m, a1, fun p hp k hk => a2 p hp k (by rw [he p hp]; exact hk), ?_⟩
  rcases a3 with a3 | ⟨p, hp, k, hk, a3⟩
  · exact Or.inl a3
  · exact Or.inr ⟨p, hp, k, by rw [← he p hp]; exact hk, a3⟩
theorem xk_last {C L : Nat → List Nat} {σ : os_St} {T : Nat} {v : Int32} (hw : x_wf σ) (hs : x_stk C L σ) (h0 : hs_last C (σ 16 0)) (hr : x_rT T σ) (a1 : (σ 16 0).toInt ≤ v.toInt) (a2 : ∀ e, e < 96 → σ 5 e ≠ 0 → x_ti σ e < T → (x_ti σ e : Int) ≤ v.toInt) (a3 : v = σ 16 0 ∨ ∃ e, e < 96 ∧ σ 5 e ≠ 0 ∧ x_ti σ e < T ∧ v.toInt = (x_ti σ e : Int)) : hs_last (fun p => C p ++ x_kl σ (x_lo σ T (L p))) v := by
  obtain ⟨m, b1, b2, b3⟩ := h0
  refine ⟨(v.toInt + 1).toNat, by omega, fun p hp k hk => ?_, ?_⟩
  · rcases List.mem_append.mp hk with z | z
    · have := b2 p hp k z
      omega
    · obtain ⟨d, hd, rfl⟩ := xk_mem.mp z
      obtain ⟨g1, g2⟩ := x_lo_mem.mp hd
      obtain ⟨c1, c2, c3, c4⟩ := ((hs p hp).1 d).mp g1
      have := a2 d c1 c2 g2
      rw [x_key_ti hw c1]
      omega
  · rcases a3 with z | ⟨e, c1, c2, c3, c4⟩
    · rw [z, b1]
      rcases b3 with w | ⟨p, hp, k, hk, w⟩
      · exact Or.inl (by omega)
      · exact Or.inr ⟨p, hp, k, List.mem_append_left _ hk, by omega⟩
    · have hp : x_pr σ e < 4 := os_vpn (hw e c1).1
      refine Or.inr ⟨x_pr σ e, hp, x_key σ e, List.mem_append_right _ (xk_mem.mpr ⟨e, x_lo_mem.mpr ⟨((hs _ hp).1 e).mpr ⟨c1, c2, hr e c1 c2 c3, rfl⟩, c3⟩, rfl⟩), ?_⟩
      rw [x_key_ti hw c1]
      omega
theorem xk_mostF {σ : os_St} (hw : x_wf σ) : ∀ (n : Nat), n ≤ 96 → (σ 16 0).toInt ≤ (os_mostF σ n).toInt ∧ (∀ e, e < n → σ 5 e ≠ 0 → (x_ti σ e : Int) ≤ (os_mostF σ n).toInt) ∧ ((os_mostF σ n) = σ 16 0 ∨ ∃ e, e < n ∧ σ 5 e ≠ 0 ∧ (os_mostF σ n).toInt = (x_ti σ e : Int))
  | 0, _ => ⟨Int.le_refl _, fun e he => absurd he (Nat.not_lt_zero e), Or.inl rfl⟩
  | n + 1, hn => by
    obtain ⟨i1, i2, i3⟩ := xk_mostF hw n (by omega)
    have h6 := x_6i hw (show n < 96 by omega)
    rw [os_mostF]
    split
    · rename_i q
      have q2 := Int32.lt_iff_toInt_lt.mp q.2
      refine ⟨by omega, fun e he hu => ?_, Or.inr ⟨n, by omega, q.1, h6⟩⟩
      by_cases z : e = n
      · rw [z, h6]
        exact Int.le_refl _
      · have := i2 e (by omega) hu
        omega
    · rename_i q
      refine ⟨i1, fun e he hu => ?_, ?_⟩
      · by_cases z : e = n
        · rw [z] at hu ⊢
          rw [← h6]
          rcases Int.lt_or_le (os_mostF σ n).toInt (σ 6 n).toInt with w | w
          · exact absurd ⟨hu, Int32.lt_iff_toInt_lt.mpr w⟩ q
          · exact w
        · exact i2 e (by omega) hu
      · rcases i3 with z | ⟨e, z1, z2, z3⟩
        · exact Or.inl z
        · exact Or.inr ⟨e, by omega, z2, z3⟩
end
section
/-! THE PLAIN LAW, 9: the Model's simulation gives a consistent history -/
def sm_f (f : Nat → Nat) : Nat → Nat
  | 0 => 0
  | n + 1 => sm_f f n + f n
theorem sm_congr {f g : Nat → Nat} : ∀ {n : Nat}, (∀ i, i < n → f i = g i) → sm_f f n = sm_f g n
  | 0, _ => rfl
  | n + 1, h => by
    rw [sm_f, sm_f, sm_congr (fun i hi => h i (by omega)), h n (by omega)]
theorem sm_upd {f g : Nat → Nat} {i : Nat} : ∀ {n : Nat}, i < n → (∀ j, j < n → j ≠ i → f j = g j) → sm_f f n + g i = sm_f g n + f i
  | 0, h, _ => by omega
  | n + 1, h, hj => by
    rw [sm_f, sm_f]
    by_cases e : i = n
    · subst e
      have := sm_congr (f := f) (g := g) (n := i) (fun j hj2 => hj j (by omega) (by omega))
      omega
    · have h1 := sm_upd (f := f) (g := g) (i := i) (n := n) (by omega) (fun j hj2 hne => hj j (by omega) hne)
      have h2 := hj n (by omega) (fun q => e q.symm)
      omega
theorem sm_le {f : Nat → Nat} {c : Nat} : ∀ {n : Nat}, (∀ i, i < n → f i ≤ c) → sm_f f n ≤ c * n
  | 0, _ => Nat.zero_le _
  | n + 1, h => by
    have h1 := sm_le (f := f) (c := c) (n := n) (fun i hi => h i (by omega))
    have h2 := h n (by omega)
    rw [sm_f, Nat.mul_succ]
    omega
theorem sm_ge {f : Nat → Nat} {i : Nat} : ∀ {n : Nat}, i < n → f i ≤ sm_f f n
  | 0, h => by omega
  | n + 1, h => by
    rw [sm_f]
    by_cases e : i = n
    · subst e; omega
    · have := sm_ge (f := f) (i := i) (n := n) (by omega)
      omega
theorem hs_s4_upd {f g : Nat → Nat} {p : Nat} (hp : p < 4) (h : ∀ q, q < 4 → q ≠ p → f q = g q) : hs_s4 f + g p = hs_s4 g + f p := by
  unfold hs_s4
  rcases (show p = 0 ∨ p = 1 ∨ p = 2 ∨ p = 3 by omega) with rfl | rfl | rfl | rfl
  · rw [h 1 (by omega) (by omega), h 2 (by omega) (by omega), h 3 (by omega) (by omega)]; omega
  · rw [h 0 (by omega) (by omega), h 2 (by omega) (by omega), h 3 (by omega) (by omega)]; omega
  · rw [h 0 (by omega) (by omega), h 1 (by omega) (by omega), h 3 (by omega) (by omega)]; omega
  · rw [h 0 (by omega) (by omega), h 1 (by omega) (by omega), h 2 (by omega) (by omega)]; omega
theorem num_full {f : Nat → Bool} : ∀ {n : Nat}, n ≤ os_num f n → ∀ i, i < n → f i = true
  | 0, _, i, hi => by omega
  | n + 1, h, i, hi => by
    have h1 := os_num_le (f := f) n
    rw [os_num] at h
    by_cases q : f n = true
    · rw [if_pos q] at h
      by_cases e : i = n
      · rw [e]; exact q
      · exact num_full (n := n) (by omega) i (by omega)
    · rw [if_neg q] at h
      omega
-- ===== the order =====
theorem m_before {μ : os_St} (hw : x_wf μ) {a b : Nat} (ha : a < 96) (hb : b < 96) : om_before μ a b = true ↔ x_key μ a < x_key μ b := by
  obtain ⟨-, a6, a8, a9, -⟩ := hw a ha
  obtain ⟨-, b6, b8, b9, -⟩ := hw b hb
  have e1 := os_vpn a6
  have e2 := os_vpn a8
  have e3 := os_vpn a9
  have e4 := os_vpn b6
  have e5 := os_vpn b8
  have e6 := os_vpn b9
  unfold om_before x_key
  rw [os_vpe a6 (by omega), os_vpe a8 (by omega), os_vpe a9 (by omega), os_vpe b6 (by omega), os_vpe b8 (by omega), os_vpe b9 (by omega)]
  generalize os_ix (μ 6 a) = t1 at *
  generalize os_ix (μ 8 a) = v1 at *
  generalize os_ix (μ 9 a) = l1 at *
  generalize os_ix (μ 6 b) = t2 at *
  generalize os_ix (μ 8 b) = v2 at *
  generalize os_ix (μ 9 b) = l2 at *
  have c : ∀ n : Nat, n < 2 ^ 31 → os_ix (nI n) = n := fun n hn => nI_clamp hn
  rw [c t1 (by omega), c v1 (by omega), c l1 (by omega), c t2 (by omega), c v2 (by omega), c l2 (by omega)]
  by_cases h1 : t1 = t2
  · subst h1
    rw [if_pos rfl]
    by_cases h2 : v1 = v2
    · subst h2
      rw [if_pos rfl, decide_eq_true_iff, nI_ltI (by omega) (by omega)]
      omega
    · rw [if_neg (fun q => h2 ((nI_eq (by omega) (by omega)).mp q)), decide_eq_true_iff, nI_ltI (by omega) (by omega)]
      omega
  · rw [if_neg (fun q => h1 ((nI_eq (by omega) (by omega)).mp q)), decide_eq_true_iff, nI_ltI (by omega) (by omega)]
    omega
theorem m_next_some {μ : os_St} (hw : x_wf μ) {N b : Nat} (hN : N ≤ 96) (h : om_next μ N = some b) : b < N ∧ μ 10 b = 0 ∧ ∀ e, e < N → μ 10 e = 0 → x_key μ b ≤ x_key μ e := by
  have hb := os_best_lt h
  obtain ⟨h1, h2⟩ := bs_some (f := fun e => (x_key μ e : Int)) (fun a b ha hb => by rw [m_before hw (by omega) (by omega)]; omega) h
  simp only [decide_eq_true_iff] at h1
  refine ⟨hb, h1, fun e he a1 => ?_⟩
  have := h2 e he (by simp only [decide_eq_true_iff]; exact a1)
  omega
theorem m_next_none {μ : os_St} {N : Nat} (h : om_next μ N = none) (e : Nat) (he : e < N) : μ 10 e ≠ 0 := by
  have := bs_none h e he
  simpa using this
-- ===== the invariant of a simulation =====
def m_w (μ : os_St) (e : Nat) : Nat := if μ 10 e = 0 then os_ix (μ 9 e) else 0
def m_dn (μ : os_St) (N : Nat) : Nat := os_num (fun e => decide (μ 10 e ≠ 0)) N
def m_inv (inj : List (Nat × Nat)) (n T N : Nat) (ks : Nat → List Nat) (μ : os_St) : Prop :=
  x_wf μ ∧ x_rules μ ∧ μ 5 0 = nI N ∧ n ≤ N ∧ N + sm_f (m_w μ) N ≤ 4 * n ∧
  (∀ p, p < 4 → hs_srt (ks p) ∧ μ 11 p = hs_run 0 (ks p) ∧ μ 12 p = nI (ks p).length) ∧
  (∀ q k, q < 4 → os_num (x_at μ (q, k)) N = inj.count (q, k) + hs_s4 (fun p => (hs_kids μ p 0 (ks p)).count (q, k))) ∧
  (∀ q k, q < 4 → os_num (fun e => decide (μ 10 e ≠ 0) && x_at μ (q, k) e) N = (ks q).count k) ∧
  (∀ p, p < 4 → ∀ k, k ∈ ks p → k < T * 64 ∧ ∀ e, e < N → μ 10 e = 0 → k ≤ x_key μ e) ∧
  hs_last ks (μ 13 0)
set_option maxHeartbeats 2000000 in
theorem m_done {inj : List (Nat × Nat)} {n T N N' a p : Nat} {ks : Nat → List Nat} {μ υ : os_St} (hI : m_inv inj n T N ks μ) (ha : a < N) (hN : N ≤ 96) (hN' : N' ≤ 96) (hd : μ 10 a = 0) (hap : x_pr μ a = p) (hmin : ∀ e, e < N → μ 10 e = 0 → x_key μ a ≤ x_key μ e) (hT : x_ti μ a < T)
    (w : x_wf υ) (hk : ∀ k, k < 5 → υ k = μ k) (k5 : υ 5 0 = nI N') (kf : ∀ k, 6 ≤ k → k ≤ 9 → ∀ i, i < N → υ k i = μ k i) (k10 : ∀ i, i < N → i ≠ a → υ 10 i = μ 10 i) (k10a : υ 10 a ≠ 0)
    (k11 : ∀ q, q ≠ p → υ 11 q = μ 11 q) (k11p : υ 11 p = hs_step (μ 11 p) (x_key μ a)) (k12 : ∀ q, q ≠ p → υ 12 q = μ 12 q) (k12p : υ 12 p = μ 12 p + 1) (k13 : υ 13 0 = μ 6 a)
    (hc : (N' = N ∧ hs_kid μ p (hs_step (μ 11 p) (x_key μ a)) (x_key μ a) = []) ∨ (N' = N + 1 ∧ υ 10 N = 0 ∧ hs_kid μ p (hs_step (μ 11 p) (x_key μ a)) (x_key μ a) = [(x_pr υ N, x_key υ N)])) :
    m_inv inj n T N' (fun q => if q = p then ks q ++ [x_key μ a] else ks q) υ ∧ m_dn υ N' = m_dn μ N + 1 := by
  obtain ⟨h1, h2, h3, h4, h5, h6, h7, h8, h9, h10⟩ := hI
  have ha96 : a < 96 := by omega
  have hp : p < 4 := by rw [← hap]; exact os_vpn (h1 a ha96).1
  have hNN : N ≤ N' := by rcases hc with ⟨q, -⟩ | ⟨q, -⟩ <;> omega
  have ek : ∀ i, i < N → x_key υ i = x_key μ i := fun i hi => by unfold x_key; rw [kf 6 (by omega) (by omega) i hi, kf 8 (by omega) (by omega) i hi, kf 9 (by omega) (by omega) i hi]
  have ep : ∀ i, i < N → x_pr υ i = x_pr μ i := fun i hi => by unfold x_pr; rw [kf 7 (by omega) (by omega) i hi]
  have ea : ∀ x i, i < N → x_at υ x i = x_at μ x i := fun x i hi => by unfold x_at; rw [ek i hi, ep i hi]
  have eks := x_kids_eq (hk 0 (by omega)) (hk 1 (by omega)) (hk 2 (by omega))
  have hle : ∀ q, q < 4 → ∀ k, k ∈ ks q → k ≤ x_key μ a := fun q hq k hk2 => (h9 q hq k hk2).2 a ha hd
  have hkp : ∀ q k, hs_s4 (fun p' => (hs_kids μ p' 0 (if p' = p then ks p' ++ [x_key μ a] else ks p')).count (q, k)) = hs_s4 (fun p' => (hs_kids μ p' 0 (ks p')).count (q, k)) + (hs_kid μ p (hs_step (μ 11 p) (x_key μ a)) (x_key μ a)).count (q, k) := by
    intro q k
    have u := hs_s4_upd (f := fun p' => (hs_kids μ p' 0 (if p' = p then ks p' ++ [x_key μ a] else ks p')).count (q, k)) (g := fun p' => (hs_kids μ p' 0 (ks p')).count (q, k)) hp (fun q' _ hne => by rw [if_neg hne])
    rw [if_pos rfl, hs_kids_app, List.count_append, hs_kids, hs_kids, List.append_nil, ← (h6 p hp).2.1] at u
    omega
  refine ⟨⟨w, x_rules_eq (hk 0 (by omega)) (hk 1 (by omega)) h2, k5, by omega, ?_, ?_, ?_, ?_, ?_, ?_⟩, ?_⟩
  · have u := sm_upd (f := m_w μ) (g := m_w υ) ha (fun j hj hne => by unfold m_w; rw [k10 j hj hne, kf 9 (by omega) (by omega) j hj])
    have g1 : m_w υ a = 0 := by unfold m_w; rw [if_neg k10a]
    have g2 : m_w μ a = os_ix (μ 9 a) := by unfold m_w; rw [if_pos hd]
    rcases hc with ⟨q1, q2⟩ | ⟨q1, q2, q3⟩
    · rw [q1]; omega
    · have hin : (x_pr υ N, x_key υ N) ∈ hs_kid μ p (hs_step (μ 11 p) (x_key μ a)) (x_key μ a) := by rw [q3]; exact List.mem_singleton_self _
      have z := (hs_kid_ti hin).2.2
      dsimp only at z
      rw [x_key_li w (by omega), x_key_li h1 ha96] at z
      have g3 : m_w υ N = os_ix (υ 9 N) := by unfold m_w; rw [if_pos q2]
      rw [q1, sm_f]
      omega
  · intro q hq
    obtain ⟨a1, a2, a3⟩ := h6 q hq
    dsimp only
    by_cases z : q = p
    · subst z
      rw [if_pos rfl]
      refine ⟨?_, ?_, ?_⟩
      · exact List.pairwise_append.mpr ⟨a1, List.pairwise_singleton _ _, fun k hk2 b hb => by rw [List.mem_singleton.mp hb]; exact hle q hq k hk2⟩
      · rw [k11p, a2, hs_run_app]; rfl
      · rw [k12p, a3, nI_1, List.length_append, List.length_singleton]
    · rw [if_neg z, k11 q z, k12 q z]
      exact ⟨a1, a2, a3⟩
  · intro q k hq
    rw [eks, hkp q k]
    have h := h7 q k hq
    have hn : os_num (x_at υ (q, k)) N = os_num (x_at μ (q, k)) N := os_num_congr (fun i hi => ea _ i hi)
    rcases hc with ⟨q1, q2⟩ | ⟨q1, q2, q3⟩
    · rw [q1, q2, hn, h, List.count_nil]; omega
    · rw [q1, q3, os_num, hn, h, List.count_singleton]
      have : (x_at υ (q, k) N = true) ↔ ((x_pr υ N, x_key υ N) == (q, k)) = true := by
        unfold x_at
        rw [Bool.and_eq_true, decide_eq_true_iff, decide_eq_true_iff, beq_iff_eq, Prod.mk.injEq]
      by_cases z : x_at υ (q, k) N = true
      · rw [if_pos z, if_pos (this.mp z)]; omega
      · rw [if_neg z, if_neg (fun w => z (this.mpr w))]; omega
  · intro q k hq
    have h := h8 q k hq
    have u := os_num_upd (f := fun e => decide (μ 10 e ≠ 0) && x_at μ (q, k) e) (g := fun e => decide (υ 10 e ≠ 0) && x_at υ (q, k) e) (i := a) (n := N) ha (fun j hj hne => by rw [k10 j hj hne, ea _ j hj])
    have g1 : (decide (υ 10 a ≠ 0) && x_at υ (q, k) a) = x_at μ (q, k) a := by rw [ea _ a ha]; simp [k10a]
    have g2 : (decide (μ 10 a ≠ 0) && x_at μ (q, k) a) = false := by simp [hd]
    rw [g1, g2] at u
    simp only [Bool.false_eq_true, if_false] at u
    have hfin : os_num (fun e => decide (υ 10 e ≠ 0) && x_at υ (q, k) e) N' = os_num (fun e => decide (υ 10 e ≠ 0) && x_at υ (q, k) e) N := by
      rcases hc with ⟨q1, q2⟩ | ⟨q1, q2, q3⟩
      · rw [q1]
      · rw [q1, os_num]
        simp [q2]
    have hcnt : (if q = p then ks q ++ [x_key μ a] else ks q).count k = (ks q).count k + (if x_at μ (q, k) a = true then 1 else 0) := by
      by_cases z : q = p
      · rw [if_pos z, List.count_append, List.count_singleton]
        congr 1
        have : (x_at μ (q, k) a = true) ↔ (x_key μ a == k) = true := by
          unfold x_at
          rw [Bool.and_eq_true, decide_eq_true_iff, decide_eq_true_iff, beq_iff_eq, hap, z]
          exact ⟨fun h => h.2, fun h => ⟨rfl, h⟩⟩
        by_cases y : x_at μ (q, k) a = true
        · rw [if_pos y, if_pos (this.mp y)]
        · rw [if_neg y, if_neg (fun w => y (this.mpr w))]
      · have : ¬ x_at μ (q, k) a = true := by
          unfold x_at
          rw [Bool.and_eq_true, decide_eq_true_iff, decide_eq_true_iff, hap]
          exact fun h => z h.1.symm
        rw [if_neg z, if_neg this, Nat.add_zero]
    rw [hfin, hcnt]
    omega
  · intro q hq k hk2
    have hkk : k ≤ x_key μ a ∧ k < T * 64 ∧ ∀ e, e < N → μ 10 e = 0 → k ≤ x_key μ e := by
      dsimp only at hk2
      have hKT : x_key μ a < T * 64 := (x_key_lt h1 ha96).mpr hT
      split at hk2
      · rcases List.mem_append.mp hk2 with z | z
        · exact ⟨hle q hq k z, (h9 q hq k z).1, (h9 q hq k z).2⟩
        · rw [List.mem_singleton.mp z]
          exact ⟨Nat.le_refl _, hKT, hmin⟩
      · exact ⟨hle q hq k hk2, (h9 q hq k hk2).1, (h9 q hq k hk2).2⟩
    refine ⟨hkk.2.1, fun e he hed => ?_⟩
    by_cases z : e < N
    · have hne : e ≠ a := fun y => k10a (by rw [← y]; exact hed)
      rw [k10 e z hne] at hed
      rw [ek e z]
      exact hkk.2.2 e z hed
    · rcases hc with ⟨q1, q2⟩ | ⟨q1, q2, q3⟩
      · omega
      · have hE : e = N := by omega
        have hin : (x_pr υ N, x_key υ N) ∈ hs_kid μ p (hs_step (μ 11 p) (x_key μ a)) (x_key μ a) := by rw [q3]; exact List.mem_singleton_self _
        have y := hs_kid_late (h2 p hp).2.2 hin
        dsimp only at y
        rw [hE]
        omega
  · rw [k13]
    refine ⟨x_ti μ a + 1, ?_, fun q hq k hk2 => ?_, Or.inr ⟨p, hp, x_key μ a, ?_, ?_⟩⟩
    · rw [x_6i h1 ha96]; omega
    · have hkk : k ≤ x_key μ a := by
        dsimp only at hk2
        split at hk2
        · rcases List.mem_append.mp hk2 with z | z
          · exact hle q hq k z
          · rw [List.mem_singleton.mp z]
            exact Nat.le_refl _
        · exact hle q hq k hk2
      have := x_key_ti h1 ha96
      omega
    · dsimp only
      rw [if_pos rfl]
      exact List.mem_append_right _ (List.mem_singleton_self _)
    · rw [x_key_ti h1 ha96]
  · unfold m_dn
    have u := os_num_upd (f := fun e => decide (μ 10 e ≠ 0)) (g := fun e => decide (υ 10 e ≠ 0)) (i := a) (n := N) ha (fun j hj hne => by rw [k10 j hj hne])
    have g1 : decide (υ 10 a ≠ 0) = true := decide_eq_true k10a
    have g2 : decide (μ 10 a ≠ 0) = false := by simp [hd]
    rw [g1, g2] at u
    simp only [Bool.false_eq_true, if_false, if_true] at u
    rcases hc with ⟨q1, q2⟩ | ⟨q1, q2, q3⟩
    · rw [q1]; omega
    · rw [q1, os_num]
      have g3 : decide (υ 10 N ≠ 0) = false := by simp [q2]
      rw [g3]
      simp only [Bool.false_eq_true, if_false]
      omega
-- ===== the machine's steps =====
def om_putN (μ : os_St) (N : Nat) (p t v l : Int32) : os_St := os_set (os_set (os_set (os_set (os_set (os_set μ 7 N p) 6 N t) 8 N v) 9 N l) 10 N 0) 5 0 (nI (N + 1))
theorem om_put_eq {μ : os_St} {N : Nat} {p t v l : Int32} (h : μ 5 0 = nI N) (hN : N < 96) : om_put μ p t v l = om_putN μ N p t v l := by
  have h1 : μ 5 0 < 96 := by
    rw [h]
    exact nI_lt (a := N) (b := 96) hN (by decide)
  rw [om_put, if_pos h1, h, os_ixn (by omega), nI_1]
  rfl
theorem pn_k {μ : os_St} {N k : Nat} {p t v l : Int32} (a1 : k ≠ 5) (a2 : k ≠ 6) (a3 : k ≠ 7) (a4 : k ≠ 8) (a5 : k ≠ 9) (a6 : k ≠ 10) : om_putN μ N p t v l k = μ k := by
  simp only [om_putN, os_set_k a1, os_set_k a2, os_set_k a3, os_set_k a4, os_set_k a5, os_set_k a6]
theorem pn_5 {μ : os_St} {N : Nat} {p t v l : Int32} : om_putN μ N p t v l 5 0 = nI (N + 1) := by simp [om_putN, os_set_s]
theorem pn_6 {μ : os_St} {N j : Nat} {p t v l : Int32} : om_putN μ N p t v l 6 j = if j = N then t else μ 6 j := by simp [om_putN, os_set_k, os_set_if]
theorem pn_7 {μ : os_St} {N j : Nat} {p t v l : Int32} : om_putN μ N p t v l 7 j = if j = N then p else μ 7 j := by simp [om_putN, os_set_k, os_set_if]
theorem pn_8 {μ : os_St} {N j : Nat} {p t v l : Int32} : om_putN μ N p t v l 8 j = if j = N then v else μ 8 j := by simp [om_putN, os_set_k, os_set_if]
theorem pn_9 {μ : os_St} {N j : Nat} {p t v l : Int32} : om_putN μ N p t v l 9 j = if j = N then l else μ 9 j := by simp [om_putN, os_set_k, os_set_if]
theorem pn_10 {μ : os_St} {N j : Nat} {p t v l : Int32} : om_putN μ N p t v l 10 j = if j = N then 0 else μ 10 j := by simp [om_putN, os_set_k, os_set_if]
theorem pn_f {μ : os_St} {N : Nat} {p t v l : Int32} : ∀ k, 6 ≤ k → k ≤ 9 → ∀ i, i < N → om_putN μ N p t v l k i = μ k i := by
  intro k a b i hi
  have hne : ¬ i = N := by omega
  rcases (show k = 6 ∨ k = 7 ∨ k = 8 ∨ k = 9 by omega) with rfl | rfl | rfl | rfl
  · rw [pn_6, if_neg hne]
  · rw [pn_7, if_neg hne]
  · rw [pn_8, if_neg hne]
  · rw [pn_9, if_neg hne]
theorem pn_wf {μ : os_St} {N : Nat} {p t v l : Int32} (h1 : x_wf μ) (hp : vp_in p 4) (ht : vp_in t 127) (hv : vp_in v 16) (hl : vp_in l 4) (htl : os_ix t + 9 * os_ix l ≤ 126) : x_wf (om_putN μ N p t v l) := by
  intro e he
  rw [pn_6, pn_7, pn_8, pn_9]
  by_cases q : e = N
  · simp only [if_pos q]; exact ⟨hp, ht, hv, hl, htl⟩
  · simp only [if_neg q]; exact h1 e he
theorem mh_10 {μ : os_St} {a p j : Nat} : (om_hd μ a p) 10 j = if j = a then 1 else μ 10 j := by simp [om_hd, os_set_k, os_set_if]
theorem mh_11 {μ : os_St} {a p j : Nat} : (om_hd μ a p) 11 j = if j = p then μ 11 p * 5 + μ 8 a + 1 else μ 11 j := by simp [om_hd, os_set_k, os_set_if]
theorem mh_12 {μ : os_St} {a p j : Nat} : (om_hd μ a p) 12 j = if j = p then μ 12 p + 1 else μ 12 j := by simp [om_hd, os_set_k, os_set_if]
theorem mh_13 {μ : os_St} {a p : Nat} : (om_hd μ a p) 13 0 = μ 6 a := by simp [om_hd, os_set_s]
set_option maxHeartbeats 2000000 in
theorem m_handle {inj : List (Nat × Nat)} {n T N a : Nat} {ks : Nat → List Nat} {μ : os_St} (hI : m_inv inj n T N ks μ) (hn : n ≤ 24) (ha : a < N) (hd : μ 10 a = 0) (hmin : ∀ e, e < N → μ 10 e = 0 → x_key μ a ≤ x_key μ e) (hT : x_ti μ a < T) :
    ∃ (N' : Nat) (ks' : Nat → List Nat), m_inv inj n T N' ks' (om_handle μ a) ∧ m_dn (om_handle μ a) N' = m_dn μ N + 1 ∧ (∀ k, k < 5 → (om_handle μ a) k = μ k) ∧ (∀ k, 6 ≤ k → k ≤ 9 → ∀ i, i < N → (om_handle μ a) k i = μ k i) := by
  obtain ⟨h1, h2, h3, h4, h5, h6, h7, h8, h9, h10⟩ := id hI
  have hN : N ≤ 96 := by omega
  have ha96 : a < 96 := by omega
  obtain ⟨p, hp⟩ : ∃ p, p = os_ix (μ 7 a) := ⟨_, rfl⟩
  have hap : x_pr μ a = p := hp.symm
  have hp4 : p < 4 := by rw [hp]; exact os_vpn (h1 a ha96).1
  have hk : ∀ k, k ≠ 10 → k ≠ 11 → k ≠ 12 → k ≠ 13 → (om_hd μ a p) k = μ k := fun k a1 a2 a3 a4 => om_hd_k a1 a2 a3 a4
  have hst := x_step h1 ha96 (μ 11 p)
  have h11 : (om_hd μ a p) 11 p = hs_step (μ 11 p) (x_key μ a) := by rw [mh_11, if_pos rfl]; exact hst
  have h9a : μ 9 a = nI (os_ix (μ 9 a)) := os_vpe (h1 a ha96).2.2.2.1 (by omega)
  have l4 := os_vpn (h1 a ha96).2.2.2.1
  have hl0 : (0 < μ 9 a) ↔ 0 < x_key μ a % 4 := by
    rw [x_key_li h1 ha96, h9a, ← nI_0, nI_ltI (by omega) (by omega), os_ixn (by omega)]
  have hhd : om_handle μ a = if 0 < (om_hd μ a p) 9 a ∧ ((om_hd μ a p) 11 p &&& (om_hd μ a p) 2 p) = 0 then om_put (om_hd μ a p) ((om_hd μ a p) 0 p) ((om_hd μ a p) 6 a + (om_hd μ a p) 1 p) (((om_hd μ a p) 11 p >>> ((2 : Int32) &&& 31)) &&& 15) ((om_hd μ a p) 9 a - 1) else om_hd μ a p := by rw [hp]; rfl
  rw [hk 9 (by decide) (by decide) (by decide) (by decide), hk 2 (by decide) (by decide) (by decide) (by decide), hk 0 (by decide) (by decide) (by decide) (by decide), hk 1 (by decide) (by decide) (by decide) (by decide), hk 6 (by decide) (by decide) (by decide) (by decide), h11] at hhd
  have hwτ : x_wf (om_hd μ a p) := x_wf_eq (hk 6 (by decide) (by decide) (by decide) (by decide)) (hk 7 (by decide) (by decide) (by decide) (by decide)) (hk 8 (by decide) (by decide) (by decide) (by decide)) (hk 9 (by decide) (by decide) (by decide) (by decide)) h1
  by_cases hc : 0 < μ 9 a ∧ (hs_step (μ 11 p) (x_key μ a) &&& μ 2 p) = 0
  · rw [if_pos hc] at hhd
    have hla : 1 ≤ os_ix (μ 9 a) := by
      have := hl0.mp hc.1
      rw [x_key_li h1 ha96] at this
      omega
    have hwa : m_w μ a = os_ix (μ 9 a) := by unfold m_w; rw [if_pos hd]
    have hNlt : N < 96 := by
      have := sm_ge (f := m_w μ) ha
      omega
    obtain ⟨r1, r2, r3⟩ := h2 p hp4
    have r2n := os_vpn r2
    have t1 := os_vpn (h1 a ha96).2.1
    have htl := (h1 a ha96).2.2.2.2
    have ht : μ 6 a + μ 1 p = nI (os_ix (μ 6 a) + os_ix (μ 1 p)) := by
      rw [← nI_add, ← os_vpe (h1 a ha96).2.1 (by omega), ← os_vpe r2 (by omega)]
    have hli : μ 9 a - 1 = nI (os_ix (μ 9 a) - 1) := by
      have : μ 9 a = nI (os_ix (μ 9 a) - 1 + 1) := by rw [show os_ix (μ 9 a) - 1 + 1 = os_ix (μ 9 a) by omega]; exact h9a
      rw [this, nI_pred, os_ixn (by omega)]
      simp
    have htn : os_ix (μ 6 a + μ 1 p) = os_ix (μ 6 a) + os_ix (μ 1 p) := by rw [ht]; exact os_ixn (by omega)
    have hln : os_ix (μ 9 a - 1) = os_ix (μ 9 a) - 1 := by rw [hli]; exact os_ixn (by omega)
    obtain ⟨s, hs⟩ : ∃ s, s = hs_step (μ 11 p) (x_key μ a) := ⟨_, rfl⟩
    rw [← hs] at hhd
    obtain ⟨v, hv⟩ : ∃ v, v = (s >>> ((2 : Int32) &&& 31)) &&& 15 := ⟨_, rfl⟩
    have hv16 : vp_in v 16 := by rw [hv]; exact pk_andIn _ (m := 15) 4 (by decide) (by decide)
    rw [← hv, om_put_eq (N := N) (by rw [hk 5 (by decide) (by decide) (by decide) (by decide)]; exact h3) hNlt] at hhd
    rw [hhd]
    have q0 : ∀ k, k < 5 → om_putN (om_hd μ a p) N (μ 0 p) (μ 6 a + μ 1 p) v (μ 9 a - 1) k = μ k := fun k hk5 => by
      rw [pn_k (by omega) (by omega) (by omega) (by omega) (by omega) (by omega)]
      exact hk k (by omega) (by omega) (by omega) (by omega)
    have qf : ∀ k, 6 ≤ k → k ≤ 9 → ∀ i, i < N → om_putN (om_hd μ a p) N (μ 0 p) (μ 6 a + μ 1 p) v (μ 9 a - 1) k i = μ k i := fun k a1 a2 i hi => by
      rw [pn_f k a1 a2 i hi, hk k (by omega) (by omega) (by omega) (by omega)]
    have q10 : ∀ j, om_putN (om_hd μ a p) N (μ 0 p) (μ 6 a + μ 1 p) v (μ 9 a - 1) 10 j = if j = N then 0 else if j = a then 1 else μ 10 j := fun j => by rw [pn_10, mh_10]
    have qx : ∀ k, (k = 11 ∨ k = 12 ∨ k = 13) → om_putN (om_hd μ a p) N (μ 0 p) (μ 6 a + μ 1 p) v (μ 9 a - 1) k = (om_hd μ a p) k := fun k hk3 => pn_k (by omega) (by omega) (by omega) (by omega) (by omega) (by omega)
    have cw : x_wf (om_putN (om_hd μ a p) N (μ 0 p) (μ 6 a + μ 1 p) v (μ 9 a - 1)) := pn_wf hwτ r1 (by rw [ht]; exact vp_in_nI (by omega) (by omega)) hv16 (by rw [hli]; exact vp_in_nI (by omega) (by omega)) (by rw [htn, hln]; omega)
    have ckid : hs_kid μ p (hs_step (μ 11 p) (x_key μ a)) (x_key μ a) = [(x_pr (om_putN (om_hd μ a p) N (μ 0 p) (μ 6 a + μ 1 p) v (μ 9 a - 1)) N, x_key (om_putN (om_hd μ a p) N (μ 0 p) (μ 6 a + μ 1 p) v (μ 9 a - 1)) N)] := by
      rw [hs_kid, if_pos ⟨hl0.mp hc.1, hc.2⟩, ← hs, ← hv]
      unfold x_pr x_key
      rw [pn_6, pn_7, pn_8, pn_9, if_pos rfl, if_pos rfl, if_pos rfl, if_pos rfl, htn, hln]
      have q1 := x_key_ti h1 ha96
      have q2 := x_key_li h1 ha96
      unfold x_key x_ti at q1
      unfold x_key at q2
      rw [q1, q2]
    have q5 : om_putN (om_hd μ a p) N (μ 0 p) (μ 6 a + μ 1 p) v (μ 9 a - 1) 5 0 = nI (N + 1) := pn_5
    generalize om_putN (om_hd μ a p) N (μ 0 p) (μ 6 a + μ 1 p) v (μ 9 a - 1) = υ at *
    have hna : ¬ a = N := by omega
    have := m_done (υ := υ) (N' := N + 1) (p := p) hI ha hN (by omega) hd hap hmin hT cw q0 q5 qf
      (fun i hi hne => by rw [q10 i, if_neg (by omega), if_neg hne])
      (by rw [q10 a, if_neg hna, if_pos rfl]; decide)
      (fun q hq => by rw [qx 11 (by omega), mh_11, if_neg hq])
      (by rw [qx 11 (by omega)]; exact h11)
      (fun q hq => by rw [qx 12 (by omega), mh_12, if_neg hq])
      (by rw [qx 12 (by omega), mh_12, if_pos rfl])
      (by rw [qx 13 (by omega)]; exact mh_13)
      (Or.inr ⟨rfl, by rw [q10 N, if_pos rfl], ckid⟩)
    exact ⟨_, _, this.1, this.2, q0, qf⟩
  · rw [if_neg hc] at hhd
    rw [hhd]
    have := m_done (υ := om_hd μ a p) (N' := N) (p := p) hI ha hN hN hd hap hmin hT hwτ (fun k hk5 => hk k (by omega) (by omega) (by omega) (by omega)) (by rw [hk 5 (by decide) (by decide) (by decide) (by decide)]; exact h3)
      (fun k a1 a2 i hi => by rw [hk k (by omega) (by omega) (by omega) (by omega)])
      (fun i hi hne => by rw [mh_10, if_neg hne])
      (by rw [mh_10, if_pos rfl]; decide)
      (fun q hq => by rw [mh_11, if_neg hq])
      h11
      (fun q hq => by rw [mh_12, if_neg hq])
      (by rw [mh_12, if_pos rfl])
      mh_13
      (Or.inl ⟨rfl, by
        rw [hs_kid, if_neg]
        rintro ⟨z1, z2⟩
        exact hc ⟨hl0.mpr z1, z2⟩⟩)
    exact ⟨_, _, this.1, this.2, fun k hk5 => hk k (by omega) (by omega) (by omega) (by omega), fun k a1 a2 i hi => by rw [hk k (by omega) (by omega) (by omega) (by omega)]⟩
/-- nothing is left up to T - 1 -/
def m_rT (T N : Nat) (μ : os_St) : Prop := ∀ e, e < N → μ 10 e = 0 → T ≤ x_ti μ e
theorem m_step {inj : List (Nat × Nat)} {n T N : Nat} {ks : Nat → List Nat} {μ : os_St} {t : Int32} (hI : m_inv inj n T N ks μ) (hn : n ≤ 24) (ht : t.toInt = (T : Int) - 1) :
    (om_step μ t = μ ∧ m_rT T N μ) ∨ (¬ m_rT T N μ ∧ ∃ (N' : Nat) (ks' : Nat → List Nat), m_inv inj n T N' ks' (om_step μ t) ∧ m_dn (om_step μ t) N' = m_dn μ N + 1 ∧ (∀ k, k < 5 → (om_step μ t) k = μ k) ∧ (∀ k, 6 ≤ k → k ≤ 9 → ∀ i, i < N → (om_step μ t) k i = μ k i)) := by
  obtain ⟨h1, h2, h3, h4, h5, -⟩ := id hI
  have hN : N ≤ 96 := by omega
  rw [om_step, h3, os_ixn (by omega)]
  cases hk : om_next μ N with
  | none =>
    rw [om_hopt]
    exact Or.inl ⟨rfl, fun e he hd => absurd hd (m_next_none hk e he)⟩
  | some a =>
    obtain ⟨a1, a2, a3⟩ := m_next_some h1 hN hk
    have a96 : a < 96 := by omega
    have hlt := x_tlt h1 (t := t) a96
    rw [om_hopt]
    by_cases z : t < μ 6 a
    · rw [if_pos z]
      refine Or.inl ⟨rfl, fun e he hd => ?_⟩
      have g1 := a3 e he hd
      have g2 := x_key_ti h1 a96
      have g3 := x_key_ti h1 (show e < 96 by omega)
      have g4 := hlt.mp z
      omega
    · rw [if_neg z]
      have hTa : x_ti μ a < T := by
        rcases Nat.lt_or_ge (x_ti μ a) T with y | y
        · exact y
        · exact absurd (hlt.mpr (by omega)) z
      refine Or.inr ⟨fun y => by have := y a a1 a2; omega, ?_⟩
      exact m_handle hI hn a1 a2 a3 hTa
theorem m_simF {inj : List (Nat × Nat)} {n T : Nat} {μ : os_St} {t : Int32} (hn : n ≤ 24) (ht : t.toInt = (T : Int) - 1) (h0 : m_inv inj n T n (fun _ => []) μ) : ∀ (j : Nat), ∃ (N : Nat) (ks : Nat → List Nat), m_inv inj n T N ks (om_simF t μ j) ∧ (j ≤ m_dn (om_simF t μ j) N ∨ m_rT T N (om_simF t μ j)) ∧ (∀ k, k < 5 → (om_simF t μ j) k = μ k) ∧ (∀ k, 6 ≤ k → k ≤ 9 → ∀ i, i < n → (om_simF t μ j) k i = μ k i)
  | 0 => ⟨n, fun _ => [], h0, Or.inl (Nat.zero_le _), fun _ _ => rfl, fun _ _ _ _ _ => rfl⟩
  | j + 1 => by
    obtain ⟨N, ks, i1, i2, i3, i4⟩ := m_simF hn ht h0 j
    rw [om_simF]
    rcases m_step i1 hn ht with ⟨a, b⟩ | ⟨a, N', ks', b1, b2, b3, b4⟩
    · rw [a]
      exact ⟨N, ks, i1, Or.inr b, i3, i4⟩
    · have hN := i1.2.2.2.1
      refine ⟨N', ks', b1, Or.inl ?_, fun k hk => (b3 k hk).trans (i3 k hk), fun k k1 k2 i hi => (b4 k k1 k2 i (by omega)).trans (i4 k k1 k2 i hi)⟩
      rcases i2 with z | z
      · omega
      · exact absurd z a
-- ===== the start of a simulation =====
theorem om_sim2_k {μ : os_St} {k : Nat} (h : k ≠ 10) : ∀ (n : Nat), om_sim2 μ n k = μ k
  | 0 => rfl
  | n + 1 => by rw [om_sim2, os_set_k h, om_sim2_k h n]
theorem om_sim2_10 {μ : os_St} {i : Nat} : ∀ (n : Nat), i < n → om_sim2 μ n 10 i = 0
  | 0, h => by omega
  | n + 1, h => by
    rw [om_sim2, os_set_if]
    split
    · rfl
    · exact om_sim2_10 n (by omega)
theorem om_sim3_k {μ : os_St} {k : Nat} (h : k ≠ 11) (h2 : k ≠ 12) : ∀ (n : Nat), om_sim3 μ n k = μ k
  | 0 => rfl
  | n + 1 => by rw [om_sim3, os_set_k h2, os_set_k h, om_sim3_k h h2 n]
theorem om_sim3_11 {μ : os_St} {i : Nat} : ∀ (n : Nat), i < n → om_sim3 μ n 11 i = 0 ∧ om_sim3 μ n 12 i = 0
  | 0, h => by omega
  | n + 1, h => by
    rw [om_sim3]
    refine ⟨?_, ?_⟩
    · rw [os_set_k (by decide), os_set_if]
      split
      · rfl
      · exact (om_sim3_11 n (by omega)).1
    · rw [os_set_if]
      split
      · rfl
      · rw [os_set_k (by decide)]
        exact (om_sim3_11 n (by omega)).2
theorem om_sim0_k {μ : os_St} {k : Nat} (h1 : k ≠ 5) (h2 : k ≠ 10) (h3 : k ≠ 11) (h4 : k ≠ 12) (h5 : k ≠ 13) : (om_sim0 μ) k = μ k := by
  rw [om_sim0, om_sim3_k h3 h4, om_sim2_k h2, om_sim1, os_set_k h5, os_set_k h1]
theorem om_sim0_5 {μ : os_St} : (om_sim0 μ) 5 0 = μ 3 0 := by
  rw [om_sim0, om_sim3_k (by decide) (by decide), om_sim2_k (by decide), om_sim1, os_set_k (by decide), os_set_s]
theorem om_sim0_13 {μ : os_St} : (om_sim0 μ) 13 0 = -1 := by
  rw [om_sim0, om_sim3_k (by decide) (by decide), om_sim2_k (by decide), om_sim1, os_set_s]
theorem om_sim0_10 {μ : os_St} {i : Nat} (hi : i < 96) : (om_sim0 μ) 10 i = 0 := by
  rw [om_sim0, om_sim3_k (by decide) (by decide), om_sim2_10 96 hi]
theorem m_num_at {μ τ : os_St} {n : Nat} (hf : ∀ k, 6 ≤ k → k ≤ 9 → ∀ i, i < n → τ k i = μ k i) (x : Nat × Nat) : os_num (x_at τ x) n = os_num (x_at μ x) n := os_num_congr (fun i hi => by
  unfold x_at x_pr x_key
  rw [hf 6 (by omega) (by omega) i hi, hf 7 (by omega) (by omega) i hi, hf 8 (by omega) (by omega) i hi, hf 9 (by omega) (by omega) i hi])
/-- THE MODEL: simulate(t) leaves a consistent history up to t in its answers -/
theorem m_sim {inj : List (Nat × Nat)} {n T : Nat} {μ : os_St} {t : Int32} (hw : x_wf μ) (hr : x_rules μ) (h3 : μ 3 0 = nI n) (hn : n ≤ 24) (ht : t.toInt = (T : Int) - 1) (hc : ∀ x, inj.count x = os_num (x_at μ x) n) :
    ∃ ks : Nat → List Nat, hs_cons μ inj (T * 64) ks ∧ (∀ p, p < 4 → ∀ k, k ∈ ks p → k < T * 64) ∧ (∀ p, p < 4 → (om_sim μ t) 11 p = hs_run 0 (ks p) ∧ (om_sim μ t) 12 p = nI (ks p).length) ∧ hs_last ks ((om_sim μ t) 13 0) ∧ x_wf (om_sim μ t) ∧ (∀ k, k < 5 → (om_sim μ t) k = μ k) ∧ ∀ x, os_num (x_at (om_sim μ t) x) n = os_num (x_at μ x) n := by
  have g : ∀ k, k ≠ 5 → k ≠ 10 → k ≠ 11 → k ≠ 12 → k ≠ 13 → (om_sim0 μ) k = μ k := fun k => om_sim0_k
  have f0 : ∀ k, 6 ≤ k → k ≤ 9 → (om_sim0 μ) k = μ k := fun k a b => g k (by omega) (by omega) (by omega) (by omega) (by omega)
  have f1 : ∀ k, k < 5 → (om_sim0 μ) k = μ k := fun k a => g k (by omega) (by omega) (by omega) (by omega) (by omega)
  have hw0 : x_wf (om_sim0 μ) := x_wf_eq (f0 6 (by omega) (by omega)) (f0 7 (by omega) (by omega)) (f0 8 (by omega) (by omega)) (f0 9 (by omega) (by omega)) hw
  have hat : ∀ x, os_num (x_at (om_sim0 μ) x) n = os_num (x_at μ x) n := fun x => m_num_at (fun k a b i _ => by rw [f0 k a b]) x
  have h0 : m_inv inj n T n (fun _ => []) (om_sim0 μ) := by
    refine ⟨hw0, x_rules_eq (f1 0 (by omega)) (f1 1 (by omega)) hr, by rw [om_sim0_5]; exact h3, Nat.le_refl _, ?_, fun p hp => ?_, fun q k hq => ?_, fun q k hq => ?_, fun p hp k hk => absurd hk List.not_mem_nil, ?_⟩
    · have := sm_le (f := m_w (om_sim0 μ)) (c := 3) (n := n) (fun i hi => by
        unfold m_w
        split
        · have := os_vpn (hw0 i (by omega)).2.2.2.1
          omega
        · omega)
      omega
    · have := om_sim3_11 (μ := om_sim2 (om_sim1 μ) 96) 4 hp
      exact ⟨List.Pairwise.nil, this.1, this.2⟩
    · rw [hat, ← hc]
      rfl
    · rw [os_num_zero (fun i hi => by simp [om_sim0_10 (μ := μ) (show i < 96 by omega)])]
      rfl
    · rw [om_sim0_13]
      exact ⟨0, by decide, fun p hp k hk => absurd hk List.not_mem_nil, Or.inl rfl⟩
  obtain ⟨N, ks, i1, i2, i3, i4⟩ := m_simF hn ht h0 96
  rw [← om_sim] at i1 i2 i3 i4
  obtain ⟨h1, h2, h3', h4, h5, h6, h7, h8, h9, h10⟩ := i1
  have hN : N ≤ 96 := by omega
  have hrT : m_rT T N (om_sim μ t) := by
    rcases i2 with z | z
    · intro e he hd
      have := num_full (f := fun e => decide ((om_sim μ t) 10 e ≠ 0)) (n := N) (by unfold m_dn at z; omega) e he
      exact absurd hd (of_decide_eq_true this)
    · exact z
  have k3 : ∀ k, k < 5 → (om_sim μ t) k = μ k := fun k hk => (i3 k hk).trans (f1 k hk)
  refine ⟨ks, ?_, fun p hp k hk => (h9 p hp k hk).1, fun p hp => ⟨(h6 p hp).2.1, (h6 p hp).2.2⟩, h10, h1, k3, fun x => m_num_at (fun k a b i hi => by rw [i4 k a b i hi, f0 k a b]) x⟩
  refine hs_cons_rules (ρ := om_sim μ t) (fun p _ => by rw [k3 0 (by omega)]) (fun p _ => by rw [k3 1 (by omega)]) (fun p _ => by rw [k3 2 (by omega)]) ⟨fun p hp => (h6 p hp).1, fun q hq k hk => ?_⟩
  rw [← h8 q k hq, ← h7 q k hq]
  refine os_num_congr (fun e he => ?_)
  rw [Bool.eq_iff_iff, Bool.and_eq_true, decide_eq_true_iff]
  refine ⟨fun z => z.2, fun z => ⟨fun y => ?_, z⟩⟩
  have g1 := hrT e he y
  unfold x_at at z
  rw [Bool.and_eq_true, decide_eq_true_iff, decide_eq_true_iff] at z
  have g2 := x_key_ti h1 (show e < 96 by omega)
  omega
end
section
/-! THE PLAIN LAW, 10: commit -/
theorem hs_cons_lt {ρ : os_St} {inj : List (Nat × Nat)} {K : Nat} {ks : Nat → List Nat} (hd : ∀ p, p < 4 → 1 ≤ os_ix (ρ 1 p)) (h : hs_cons ρ inj K ks) : hs_cons ρ inj K (fun p => hs_lt K (ks p)) := by
  refine ⟨fun p hp => List.Pairwise.filter _ (h.1 p hp), fun q hq k hk => ?_⟩
  have e1 : (hs_lt K (ks q)).count k = (ks q).count k := by
    unfold hs_lt
    rw [List.count_filter (by simpa using hk)]
  dsimp only
  rw [e1, h.2 q hq k hk]
  congr 1
  exact hs_s4_congr (fun p hp => hs_kids_lt (hd p hp) (h.1 p hp) q k (Nat.le_of_lt hk))
set_option maxHeartbeats 2000000 in
theorem xi_commit {inj : List (Nat × Nat)} {C L : Nat → List Nat} {H n T : Nat} {σ τ : os_St} (hI : x_inv inj C H n 96 [] L σ) (hHT : H ≤ T) (hk : ∀ k, k < 14 → k ≠ 3 → k ≠ 4 → k ≠ 5 → τ k = σ k) (h5' : ∀ e, e < 96 → (τ 5 e ≠ 0 ↔ (σ 5 e ≠ 0 ∧ T ≤ x_ti σ e))) :
    x_inv inj (fun p => C p ++ x_kl σ (x_lo σ T (L p))) T n 96 [] (fun p => x_hi σ T (L p)) τ := by
  obtain ⟨h1, h2, h3, h4, h5, h6, h7, h8, h9, h10⟩ := hI
  have e0 := hk 0 (by decide) (by decide) (by decide) (by decide)
  have e1 := hk 1 (by decide) (by decide) (by decide) (by decide)
  have e2 := hk 2 (by decide) (by decide) (by decide) (by decide)
  have e6 := hk 6 (by decide) (by decide) (by decide) (by decide)
  have e7 := hk 7 (by decide) (by decide) (by decide) (by decide)
  have e8 := hk 8 (by decide) (by decide) (by decide) (by decide)
  have e9 := hk 9 (by decide) (by decide) (by decide) (by decide)
  have e10 := hk 10 (by decide) (by decide) (by decide) (by decide)
  have e11 := hk 11 (by decide) (by decide) (by decide) (by decide)
  have e12 := hk 12 (by decide) (by decide) (by decide) (by decide)
  have e13 := hk 13 (by decide) (by decide) (by decide) (by decide)
  have ek := x_key_eq e6 e8 e9
  have eo := x_ord_eq e6 e8 e9
  have ep := x_pr_eq e7
  have et := x_ti_eq e6
  have ea := x_at_eq e6 e7 e8 e9
  have epl := x_place_eq e6 e7 e8 e9
  have ekd := x_kid_eq e0 e1 e2
  have eks := x_kids_eq e0 e1 e2
  have hsp : x_sp τ = x_sp σ := by funext x e; unfold x_sp; rw [e12, ea]
  have hspl : ∀ p, p < 4 → L p = x_hi σ T (L p) ++ x_lo σ T (L p) := fun p hp => xk_split h1 (fun e he => (((h4 p hp).1 e).mp he).1) (h4 p hp).2.1
  have hch : ∀ p, p < 4 → x_chain σ (hs_run 0 (C p)) (x_hi σ T (L p) ++ x_lo σ T (L p)) (σ 13 p) := fun p hp => by
    rw [← hspl p hp]
    exact (h4 p hp).2.2
  have hw' : x_wf τ := x_wf_eq e6 e7 e8 e9 h1
  have hstk : x_stk (fun p => C p ++ x_kl σ (x_lo σ T (L p))) (fun p => x_hi σ T (L p)) τ := by
    intro p hp
    obtain ⟨hm, hpw, -⟩ := h4 p hp
    refine ⟨fun e => ?_, ?_, ?_⟩
    · rw [x_hi_mem, hm e, e10, ep]
      constructor
      · rintro ⟨⟨a1, a2, a3, a4⟩, a5⟩
        exact ⟨a1, (h5' e a1).mpr ⟨a2, a5⟩, a3, a4⟩
      · rintro ⟨a1, a2, a3, a4⟩
        have := (h5' e a1).mp a2
        exact ⟨⟨a1, this.1, a3, a4⟩, this.2⟩
    · rw [eo]
      exact List.Pairwise.filter _ hpw
    · rw [e13]
      exact x_chain_eq (fun e _ => ⟨by rw [e11], by rw [ek]⟩) (xc_high (hch p hp))
  have hsent : x_sent τ := by
    intro e he hu
    rw [e10, e12, e11, ek, ep, ekd, epl]
    exact h6 e he ((h5' e he).mp hu).1
  refine ⟨hw', x_rules_eq e0 e1 h2, fun e he hu => ?_, hstk, fun d e hd he du eu ed hpe ho => ?_, hsent, fun e he hu hs => ?_, ⟨List.nodup_nil, fun _ q => absurd q List.not_mem_nil⟩, fun q k hq hk2 => ?_, ?_⟩
  · rw [et]
    exact ((h5' e he).mp hu).2
  · rw [e10] at ed ⊢
    rw [ep] at hpe
    rw [eo] at ho
    exact h5 d e hd he ((h5' d hd).mp du).1 ((h5' e he).mp eu).1 ed hpe ho
  · rw [e12] at hs ⊢
    obtain ⟨u1, u2⟩ := (h5' e he).mp hu
    obtain ⟨t1, t2, t3, t4⟩ := h7 e he u1 hs
    have hlate := x_child_late h1 h2 h6 h7 he u1 hs
    exact ⟨t1, (h5' _ (os_vpn t1)).mpr ⟨t2, by omega⟩, List.not_mem_nil, fun e' he' hu' hq => t4 e' he' ((h5' e' he').mp hu').1 hq⟩
  · have hU : os_num (x_Uf τ (q, k)) 96 = os_num (x_Uf σ (q, k)) 96 := os_num_congr (fun e he => by
      unfold x_Uf
      rw [ea, Bool.eq_iff_iff, Bool.and_eq_true, Bool.and_eq_true, decide_eq_true_iff, decide_eq_true_iff, h5' e he]
      constructor
      · rintro ⟨⟨a, b⟩, c⟩; exact ⟨a, c⟩
      · rintro ⟨a, c⟩
        refine ⟨⟨a, ?_⟩, c⟩
        unfold x_at at c
        rw [Bool.and_eq_true, decide_eq_true_iff, decide_eq_true_iff] at c
        have := x_key_ti h1 he
        omega)
    have hS1 := xk_Sf h1 h4 h6 (q, k)
    have hS2 := xk_Sf hw' hstk hsent (q, k)
    rw [hsp] at hS2
    have hsum : hs_s4 (fun p => (L p).countP (x_sp σ (q, k))) = hs_s4 (fun p => (x_hi σ T (L p)).countP (x_sp σ (q, k))) + hs_s4 (fun p => (x_lo σ T (L p)).countP (x_sp σ (q, k))) := by
      rw [← hs_s4_add]
      refine hs_s4_congr (fun p hp => ?_)
      have := congrArg (List.countP (x_sp σ (q, k))) (hspl p hp)
      rw [List.countP_append] at this
      exact this
    have hk3 : hs_s4 (fun p => (hs_kids σ p 0 (C p ++ x_kl σ (x_lo σ T (L p)))).count (q, k)) = hs_s4 (fun p => (hs_kids σ p 0 (C p)).count (q, k)) + hs_s4 (fun p => (x_lo σ T (L p)).countP (x_sp σ (q, k))) := by
      rw [← hs_s4_add]
      refine hs_s4_congr (fun p hp => ?_)
      obtain ⟨n', hn'⟩ := xc_low (hch p hp)
      exact xk_kids (fun e he => x_stk_kid h4 h6 hp (x_lo_mem.mp he).1) hn'
    have h := h9 q k hq (by omega)
    rw [List.countP_nil] at h ⊢
    rw [hU, eks, hk3, hS2]
    omega
  · refine Nat.le_trans (os_num_mono (fun e he hq => ?_)) h10
    unfold x_lf at hq ⊢
    rw [Bool.and_eq_true, decide_eq_true_iff, decide_eq_true_iff] at hq ⊢
    rw [e12] at hq
    exact ⟨((h5' e he).mp hq.1).1, hq.2⟩
-- ===== folding =====
theorem os_stateAt_eq {σ τ : os_St} {p t : Int32} (h : ∀ k, k ≠ 14 → k ≠ 15 → τ k = σ k) : os_stateAt τ p t = os_stateAt σ p t := by
  have h5 := h 5 (by decide) (by decide)
  have h6 := h 6 (by decide) (by decide)
  have h7 := h 7 (by decide) (by decide)
  have h8 := h 8 (by decide) (by decide)
  have h9 := h 9 (by decide) (by decide)
  have h10 := h 10 (by decide) (by decide)
  have h11 := h 11 (by decide) (by decide)
  have h13 := h 13 (by decide) (by decide)
  have a1 : os_okT τ p t = os_okT σ p t := by funext e; unfold os_okT; rw [h5, h10, h7, h6]
  have a2 : os_soon τ = os_soon σ := by funext a b; unfold os_soon; rw [h6, h8, h9]
  unfold os_stateAt os_firstT
  rw [a1, a2]
  generalize os_best (os_okT σ p t) (fun e b => os_soon σ e b) 96 = o
  cases o with
  | none => rw [os_at, os_at, h13]
  | some f => rw [os_at, os_at, h11]
theorem os_count_eq {σ τ : os_St} {p t : Int32} (h : ∀ k, k ≠ 14 → k ≠ 15 → τ k = σ k) : os_count τ p t = os_count σ p t := by
  unfold os_count
  rw [os_cntF_num, os_cntF_num, h 5 (by decide) (by decide), h 6 (by decide) (by decide), h 7 (by decide) (by decide)]
theorem os_fold1_eq {σ φ : os_St} {t : Int32} {n : Nat} (h : ∀ k, k ≠ 14 → k ≠ 15 → φ k = σ k) (h15 : φ 15 n = σ 15 n) : os_fold1 t φ n = os_set (os_set φ 14 n (os_stateAt σ (nI n) t)) 15 n (σ 15 n + os_count σ (nI n) t) := by
  unfold os_fold1
  rw [os_stateAt_eq h, os_count_eq (σ := σ) (τ := os_set φ 14 n (os_stateAt σ (nI n) t)) (fun k a b => by rw [os_set_k a]; exact h k a b), os_set_k (show (15 : Nat) ≠ 14 by decide), h15]
theorem os_foldF_ok {σ : os_St} {t : Int32} : ∀ (n : Nat), (∀ k, k ≠ 14 → k ≠ 15 → (os_foldF t σ n).1 k = σ k) ∧ (∀ q, q < n → (os_foldF t σ n).1 14 q = os_stateAt σ (nI q) t ∧ (os_foldF t σ n).1 15 q = σ 15 q + os_count σ (nI q) t) ∧ (∀ q, n ≤ q → (os_foldF t σ n).1 15 q = σ 15 q)
  | 0 => ⟨fun _ _ _ => rfl, fun q h => absurd h (Nat.not_lt_zero q), fun _ _ => rfl⟩
  | n + 1 => by
    obtain ⟨i1, i2, i3⟩ := os_foldF_ok (σ := σ) (t := t) n
    have e : (os_foldF t σ (n + 1)).1 = os_set (os_set (os_foldF t σ n).1 14 n (os_stateAt σ (nI n) t)) 15 n (σ 15 n + os_count σ (nI n) t) := os_fold1_eq i1 (i3 n (Nat.le_refl n))
    rw [e]
    refine ⟨fun k a b => ?_, fun q hq => ?_, fun q hq => ?_⟩
    · rw [os_set_k b, os_set_k a]
      exact i1 k a b
    · by_cases z : q = n
      · subst z
        exact ⟨by rw [os_set_k (by decide), os_set_s], by rw [os_set_s]⟩
      · have := i2 q (by omega)
        exact ⟨by rw [os_set_k (by decide), os_set_i z]; exact this.1, by rw [os_set_i z, os_set_k (by decide)]; exact this.2⟩
    · rw [os_set_i (by omega), os_set_k (by decide)]
      exact i3 q (by omega)
theorem os_foldF_sum {σ : os_St} {t : Int32} {f : Nat → Nat} : ∀ (n : Nat), (∀ q, q < n → σ 15 q + os_count σ (nI q) t = nI (f q)) → (os_foldF t σ n).2 = nI (sm_f f n)
  | 0, _ => nI_0.symm
  | n + 1, h => by
    have ih := os_foldF_sum (σ := σ) (t := t) (f := f) n (fun q hq => h q (by omega))
    have e : (os_foldF t σ (n + 1)).2 = (os_foldF t σ n).2 + (os_foldF t σ (n + 1)).1 15 n := rfl
    rw [e, ih, ((os_foldF_ok (n + 1)).2.1 n (by omega)).2, h n (by omega), nI_add]
    rfl
theorem os_sumF_sum {σ : os_St} {f : Nat → Nat} : ∀ (n : Nat), (∀ q, q < n → σ 15 q + os_count σ (nI q) 200 = nI (f q)) → os_sumF σ n = nI (sm_f f n)
  | 0, _ => nI_0.symm
  | n + 1, h => by
    have ih := os_sumF_sum (σ := σ) (f := f) n (fun q hq => h q (by omega))
    rw [os_sumF, ih, h n (by omega), nI_add]
    rfl
theorem om_all_sum {μ : os_St} {f : Nat → Nat} (h : ∀ q, q < 4 → μ 12 q = nI (f q)) : om_all μ = nI (sm_f f 4) := by
  unfold om_all
  rw [h 0 (by omega), h 1 (by omega), h 2 (by omega), h 3 (by omega), nI_add, nI_add, nI_add]
  congr 1
  simp only [sm_f]
  omega
-- ===== dropping =====
theorem xk_dropF {σ : os_St} (hw : x_wf σ) {t : Int32} {T : Nat} (ht : t.toInt = (T : Int) - 1) : ∀ (n : Nat), n ≤ 96 → (∀ k, k ≠ 5 → k ≠ 16 → (os_dropF t σ n) k = σ k) ∧ (∀ e, (os_dropF t σ n) 5 e ≠ 0 ↔ (σ 5 e ≠ 0 ∧ ¬ (e < n ∧ x_ti σ e < T))) ∧ (σ 16 0).toInt ≤ ((os_dropF t σ n) 16 0).toInt ∧ (∀ e, e < n → σ 5 e ≠ 0 → x_ti σ e < T → (x_ti σ e : Int) ≤ ((os_dropF t σ n) 16 0).toInt) ∧ ((os_dropF t σ n) 16 0 = σ 16 0 ∨ ∃ e, e < n ∧ σ 5 e ≠ 0 ∧ x_ti σ e < T ∧ ((os_dropF t σ n) 16 0).toInt = (x_ti σ e : Int))
  | 0, _ => ⟨fun _ _ _ => rfl, fun e => ⟨fun h => ⟨h, fun q => absurd q.1 (Nat.not_lt_zero e)⟩, fun h => h.1⟩, Int.le_refl _, fun e he => absurd he (Nat.not_lt_zero e), Or.inl rfl⟩
  | n + 1, hn => by
    obtain ⟨i1, i2, i3, i4, i5⟩ := xk_dropF hw ht n (by omega)
    rw [os_dropF]
    generalize os_dropF t σ n = φ at *
    have n96 : n < 96 := by omega
    have e6 : φ 6 n = σ 6 n := by rw [i1 6 (by decide) (by decide)]
    have h6 := x_6le hw n96 ht
    have h6i := x_6i hw n96
    have u5 : φ 5 n ≠ 0 ↔ σ 5 n ≠ 0 := by
      rw [i2 n]
      exact ⟨fun h => h.1, fun h => ⟨h, fun q => by omega⟩⟩
    unfold os_drop1
    by_cases c : φ 5 n ≠ 0 ∧ φ 6 n ≤ t
    · rw [if_pos c]
      have c1 : σ 5 n ≠ 0 := u5.mp c.1
      have c2 : x_ti σ n < T := h6.mp (by rw [← e6]; exact c.2)
      have h5e : ∀ (ψ : os_St), (∀ e, ψ 5 e = φ 5 e) → ∀ e, (os_set ψ 5 n 0) 5 e ≠ 0 ↔ (σ 5 e ≠ 0 ∧ ¬ (e < n + 1 ∧ x_ti σ e < T)) := by
        intro ψ hψ e
        rw [os_set_if]
        by_cases z : e = n
        · rw [if_pos z]
          exact ⟨fun h => absurd rfl h, fun h => absurd ⟨by omega, by rw [z]; exact c2⟩ h.2⟩
        · rw [if_neg z, hψ e, i2 e]
          constructor
          · rintro ⟨a, b⟩; exact ⟨a, fun q => b ⟨by omega, q.2⟩⟩
          · rintro ⟨a, b⟩; exact ⟨a, fun q => b ⟨by omega, q.2⟩⟩
      by_cases d : φ 16 0 < φ 6 n
      · rw [if_pos d]
        have d2 := Int32.lt_iff_toInt_lt.mp d
        rw [e6, h6i] at d2
        have e16 : (os_set (os_set φ 16 0 (φ 6 n)) 5 n 0) 16 0 = σ 6 n := by rw [os_set_k (by decide), os_set_s, e6]
        refine ⟨fun k a b => by rw [os_set_k a, os_set_k b]; exact i1 k a b, h5e _ (fun e => by rw [os_set_k (by decide)]), ?_, fun e he hu hlt => ?_, Or.inr ⟨n, by omega, c1, c2, by rw [e16, h6i]⟩⟩
        · rw [e16, h6i]; omega
        · rw [e16, h6i]
          by_cases z : e = n
          · rw [z]; exact Int.le_refl _
          · have := i4 e (by omega) hu hlt
            omega
      · rw [if_neg d]
        have e16 : (os_set φ 5 n 0) 16 0 = φ 16 0 := by rw [os_set_k (by decide)]
        have d2 : (x_ti σ n : Int) ≤ (φ 16 0).toInt := by
          rcases Int.lt_or_le (φ 16 0).toInt (x_ti σ n : Int) with w | w
          · exact absurd (Int32.lt_iff_toInt_lt.mpr (by rw [e6, h6i]; exact w)) d
          · exact w
        refine ⟨fun k a b => by rw [os_set_k a]; exact i1 k a b, h5e _ (fun e => rfl), by rw [e16]; exact i3, fun e he hu hlt => ?_, ?_⟩
        · rw [e16]
          by_cases z : e = n
          · rw [z]; exact d2
          · exact i4 e (by omega) hu hlt
        · rw [e16]
          rcases i5 with w | ⟨e, w1, w2⟩
          · exact Or.inl w
          · exact Or.inr ⟨e, by omega, w2⟩
    · rw [if_neg c]
      have hno : ¬ (σ 5 n ≠ 0 ∧ x_ti σ n < T) := fun q => c ⟨u5.mpr q.1, by rw [e6]; exact h6.mpr q.2⟩
      refine ⟨i1, fun e => ?_, i3, fun e he hu hlt => ?_, ?_⟩
      · rw [i2 e]
        constructor
        · rintro ⟨a, b⟩
          refine ⟨a, fun q => ?_⟩
          by_cases z : e = n
          · exact hno (by rw [← z]; exact ⟨a, q.2⟩)
          · exact b ⟨by omega, q.2⟩
        · rintro ⟨a, b⟩; exact ⟨a, fun q => b ⟨by omega, q.2⟩⟩
      · by_cases z : e = n
        · exact absurd ⟨by rw [← z]; exact hu, by rw [← z]; exact hlt⟩ hno
        · exact i4 e (by omega) hu hlt
      · rcases i5 with w | ⟨e, w1, w2⟩
        · exact Or.inl w
        · exact Or.inr ⟨e, by omega, w2⟩
end
section
/-! THE PLAIN LAW, 11: the joint invariant of the two objects, and the ten calls -/
def jx (inj : List (Nat × Nat)) (C : Nat → List Nat) (H n : Nat) (σ : os_St) : Prop :=
  x_qui inj C H n σ ∧ n ≤ 24 ∧ H ≤ 201 ∧ σ 3 0 = nI n ∧ (σ 4 0).toInt = (H : Int) - 1 ∧ (∀ p, p < 4 → ∀ k, k ∈ C p → k < H * 64) ∧ hs_cons σ inj (H * 64) C ∧ (∀ p, p < 4 → σ 14 p = hs_run 0 (C p) ∧ σ 15 p = nI (C p).length) ∧ hs_last C (σ 16 0)
def jm (inj : List (Nat × Nat)) (n : Nat) (σ μ : os_St) : Prop :=
  x_wf μ ∧ (∀ p, p < 4 → μ 0 p = σ 0 p ∧ μ 1 p = σ 1 p ∧ μ 2 p = σ 2 p) ∧ μ 3 0 = nI n ∧ ∀ x, inj.count x = os_num (x_at μ x) n
def j_ok (σ μ : os_St) : Prop := ∃ (inj : List (Nat × Nat)) (C : Nat → List Nat) (H n : Nat), jx inj C H n σ ∧ jm inj n σ μ ∧ μ 4 0 = σ 4 0
theorem jx_keep {inj : List (Nat × Nat)} {C : Nat → List Nat} {H n : Nat} {σ τ : os_St} (hx : jx inj C H n σ) (hq : x_qui inj C H n τ) (hk : x_kp σ τ) : jx inj C H n τ := by
  obtain ⟨-, hn, hH, h3, h4, hC, hc, hf, hl⟩ := hx
  refine ⟨hq, hn, hH, by rw [hk 3 (by omega)]; exact h3, by rw [hk 4 (by omega)]; exact h4, hC, ?_, fun p hp => ?_, by rw [hk 16 (by omega)]; exact hl⟩
  · exact hs_cons_rules (fun p _ => by rw [hk 0 (by omega)]) (fun p _ => by rw [hk 1 (by omega)]) (fun p _ => by rw [hk 2 (by omega)]) hc
  · rw [hk 14 (by omega), hk 15 (by omega)]
    exact hf p hp
theorem jm_keep {inj : List (Nat × Nat)} {n : Nat} {σ τ μ : os_St} (hm : jm inj n σ μ) (h0 : τ 0 = σ 0) (h1 : τ 1 = σ 1) (h2 : τ 2 = σ 2) : jm inj n τ μ := by
  obtain ⟨a, b, c, d⟩ := hm
  exact ⟨a, by rw [h0, h1, h2]; exact b, c, d⟩
theorem bad_eq (p : Int32) : om_bad p = os_badP p := by
  unfold om_bad os_badP
  have : (3 < p) ↔ (4 ≤ p) := by
    rw [Int32.lt_iff_toInt_lt, Int32.le_iff_toInt_le]
    have h3 : (3 : Int32).toInt = 3 := by decide
    have h4 : (4 : Int32).toInt = 4 := by decide
    omega
  simp only [this]
theorem ask_eq {σ μ : os_St} (h : μ 4 0 = σ 4 0) (t : Int32) : om_askable μ t = !os_badT σ t := by
  unfold om_askable os_badT
  have e1 : (σ 4 0 ≤ t) ↔ ¬ (t < σ 4 0) := by
    rw [Int32.le_iff_toInt_le, Int32.lt_iff_toInt_lt]
    omega
  have e2 : (t ≤ 200) ↔ ¬ (200 < t) := by
    rw [Int32.le_iff_toInt_le, Int32.lt_iff_toInt_lt]
    omega
  rw [h]
  by_cases a : t < σ 4 0 <;> by_cases b : 200 < t <;> simp [e1, e2, a, b]
theorem j_time {inj : List (Nat × Nat)} {C : Nat → List Nat} {H n : Nat} {σ : os_St} {t : Int32} (hx : jx inj C H n σ) (h1 : ¬ t < σ 4 0) (h2 : ¬ 200 < t) : ∃ T : Nat, t.toInt = (T : Int) - 1 ∧ H ≤ T ∧ T ≤ 201 := by
  have h4 := hx.2.2.2.2.1
  rw [Int32.lt_iff_toInt_lt] at h1 h2
  have h200 : (200 : Int32).toInt = 200 := by decide
  exact ⟨(t.toInt + 1).toNat, by omega, by omega, by omega⟩
theorem badT_no {σ : os_St} {t : Int32} (h : ¬ os_badT σ t = true) : ¬ t < σ 4 0 ∧ ¬ 200 < t := by
  unfold os_badT at h
  rw [Bool.or_eq_true, decide_eq_true_iff, decide_eq_true_iff] at h
  exact ⟨fun q => h (Or.inl q), fun q => h (Or.inr q)⟩
theorem j_reach {inj : List (Nat × Nat)} {C : Nat → List Nat} {H n T : Nat} {σ : os_St} {t : Int32} (hx : jx inj C H n σ) (ht : t.toInt = (T : Int) - 1) : jx inj C H n (os_reach σ t) ∧ x_rT T (os_reach σ t) ∧ x_kp σ (os_reach σ t) := by
  obtain ⟨a, b, c⟩ := xi_reach (t := t) hx.2.1 hx.1
  exact ⟨jx_keep hx a c, fun d d1 d2 d3 => b d d1 d2 (by omega), c⟩
/-- both objects read the same history -/
theorem j_agree {inj : List (Nat × Nat)} {C : Nat → List Nat} {H n T : Nat} {σ μ : os_St} {t : Int32} (hx : jx inj C H n σ) (hm : jm inj n σ μ) (hr : x_rT T σ) (hHT : H ≤ T) (ht : t.toInt = (T : Int) - 1) :
    ∃ (L h : Nat → List Nat), x_inv inj C H n 96 [] L σ ∧ (∀ p, p < 4 → h p = C p ++ x_kl σ (x_lo σ T (L p))) ∧ hs_cons σ inj (T * 64) h ∧ (∀ p, p < 4 → ∀ k, k ∈ h p → k < T * 64) ∧ (∀ p, p < 4 → os_stateAt σ (nI p) t = hs_run 0 (h p) ∧ σ 15 p + os_count σ (nI p) t = nI (h p).length ∧ (om_sim μ t) 11 p = hs_run 0 (h p) ∧ (om_sim μ t) 12 p = nI (h p).length) ∧ hs_last h ((om_sim μ t) 13 0) ∧ jm inj n σ (om_sim μ t) ∧ (om_sim μ t) 4 0 = μ 4 0 := by
  obtain ⟨⟨⟨L, hI⟩, h0, hb⟩, hn, hH, h3, h4, hC, hc, hf, hl⟩ := id hx
  obtain ⟨m1, m2, m3, m4⟩ := id hm
  have hrm : x_rules μ := fun p hp => by
    obtain ⟨a, b, c⟩ := m2 p hp
    rw [a, b]
    exact hI.2.1 p hp
  obtain ⟨ks, s1, s2, s3, s4, s5, s6, s7⟩ := m_sim m1 hrm m3 hn ht m4
  have hd : ∀ p, p < 4 → 1 ≤ os_ix (σ 1 p) := fun p hp => (hI.2.1 p hp).2.2
  have hcx := xk_cons (K := T * 64) hI hC hc (fun d a b c => hr d a b ((x_key_lt hI.1 a).mp c))
  have hcm : hs_cons σ inj (T * 64) ks := hs_cons_rules (fun p hp => (m2 p hp).1) (fun p hp => (m2 p hp).2.1) (fun p hp => (m2 p hp).2.2) s1
  have e : ∀ p, p < 4 → ks p = C p ++ x_kl σ (x_lo σ T (L p)) := fun p hp => by
    have u := hs_uniq hd hcx hcm hp
    rw [xk_lt hI.1 hI.2.2.2.1 hp (hC p hp) hHT, hs_lt_all (s2 p hp)] at u
    exact u.symm
  refine ⟨L, ks, hI, e, hcm, s2, fun p hp => ⟨?_, ?_, (s3 p hp).1, (s3 p hp).2⟩, s4, ⟨s5, fun p hp => ?_, ?_, fun x => ?_⟩, by rw [s6 4 (by omega)]⟩
  · rw [e p hp]
    exact xk_stateAt hI.1 hI.2.2.2.1 hp (hC p hp) hHT ht
  · rw [e p hp, xk_cnt hI.1 hI.2.2.2.1 hp ht hr, (hf p hp).2, nI_add, List.length_append, xk_len]
  · rw [s6 0 (by omega), s6 1 (by omega), s6 2 (by omega)]
    exact m2 p hp
  · rw [s6 3 (by omega)]
    exact m3
  · rw [s7]
    exact m4 x
theorem j_horizon {σ μ : os_St} (hJ : j_ok σ μ) : σ 4 0 = μ 4 0 := by
  obtain ⟨inj, C, H, n, -, -, h4⟩ := hJ
  exact h4.symm
theorem j_handled {σ μ : os_St} (p t : Int32) (hJ : j_ok σ μ) : (os_handled σ p t).1 = (om_handled μ p t).1 ∧ j_ok (os_handled σ p t).2 (om_handled μ p t).2 := by
  obtain ⟨inj, C, H, n, hx, hm, h4⟩ := id hJ
  unfold os_handled om_handled
  rw [bad_eq, ask_eq h4]
  by_cases c1 : os_badP p = true
  · rw [if_pos c1, if_pos c1]
    exact ⟨rfl, hJ⟩
  · rw [if_neg c1, if_neg c1]
    by_cases c2 : os_badT σ t = true
    · rw [if_pos c2, if_pos (by rw [c2]; rfl)]
      exact ⟨rfl, hJ⟩
    · rw [if_neg c2, if_neg (by simpa using c2)]
      obtain ⟨T, ht, hHT, -⟩ := j_time hx (badT_no c2).1 (badT_no c2).2
      obtain ⟨r1, r2, r3⟩ := j_reach hx ht
      obtain ⟨L, h, g1, g2, g3, g4, g5, g6, g7, g8⟩ := j_agree r1 (jm_keep hm (r3 0 (by omega)) (r3 1 (by omega)) (r3 2 (by omega))) r2 hHT ht
      have hv : vp_in p 4 := os_badP_in (by simpa using c1)
      have hp := os_vpn hv
      have u := g5 (os_ix p) hp
      rw [← os_vpe hv (by omega)] at u
      dsimp only
      refine ⟨?_, inj, C, H, n, r1, g7, by rw [g8, h4, r3 4 (by omega)]⟩
      rw [u.2.1, u.2.2.2]
theorem j_state {σ μ : os_St} (p t : Int32) (hJ : j_ok σ μ) : (os_state σ p t).1 = (om_state μ p t).1 ∧ j_ok (os_state σ p t).2 (om_state μ p t).2 := by
  obtain ⟨inj, C, H, n, hx, hm, h4⟩ := id hJ
  unfold os_state om_state
  rw [bad_eq, ask_eq h4]
  by_cases c : os_badP p = true ∨ os_badT σ t = true
  · have c' : os_badP p = true ∨ (!os_badT σ t) = false := by
      rcases c with c | c
      · exact Or.inl c
      · exact Or.inr (by rw [c]; rfl)
    rw [if_pos c, if_pos c']
    exact ⟨rfl, hJ⟩
  · have c' : ¬ (os_badP p = true ∨ (!os_badT σ t) = false) := by
      rintro (q | q)
      · exact c (Or.inl q)
      · exact c (Or.inr (by simpa using q))
    rw [if_neg c, if_neg c']
    have c1 : ¬ os_badP p = true := fun q => c (Or.inl q)
    have c2 : ¬ os_badT σ t = true := fun q => c (Or.inr q)
    have hv : vp_in p 4 := os_badP_in (by simpa using c1)
    have hp := os_vpn hv
    by_cases z : t = σ 4 0
    · rw [if_pos z]
      have ht : t.toInt = (H : Int) - 1 := by rw [z]; exact hx.2.2.2.2.1
      obtain ⟨⟨L0, hI0⟩, -⟩ := hx.1
      have hr : x_rT H σ := fun d d1 d2 d3 => by
        have := hI0.2.2.1 d d1 d2
        omega
      obtain ⟨L, h, g1, g2, g3, g4, g5, g6, g7, g8⟩ := j_agree hx hm hr (Nat.le_refl _) ht
      have hlo : x_lo σ H (L (os_ix p)) = [] := List.filter_eq_nil_iff.mpr (fun e he => by
        obtain ⟨a1, a2, a3, a4⟩ := ((g1.2.2.2.1 _ hp).1 e).mp he
        have := g1.2.2.1 e a1 a2
        simpa using this)
      have u := g5 (os_ix p) hp
      have v := g2 (os_ix p) hp
      rw [hlo] at v
      have v2 : h (os_ix p) = C (os_ix p) := by rw [v]; simp [x_kl]
      dsimp only
      refine ⟨?_, inj, C, H, n, hx, g7, by rw [g8, h4]⟩
      rw [u.2.2.1, v2]
      exact (hx.2.2.2.2.2.2.2.1 _ hp).1
    · rw [if_neg z]
      obtain ⟨T, ht, hHT, -⟩ := j_time hx (badT_no c2).1 (badT_no c2).2
      obtain ⟨r1, r2, r3⟩ := j_reach hx ht
      obtain ⟨L, h, g1, g2, g3, g4, g5, g6, g7, g8⟩ := j_agree r1 (jm_keep hm (r3 0 (by omega)) (r3 1 (by omega)) (r3 2 (by omega))) r2 hHT ht
      have u := g5 (os_ix p) hp
      rw [← os_vpe hv (by omega)] at u
      dsimp only
      refine ⟨?_, inj, C, H, n, r1, g7, by rw [g8, h4, r3 4 (by omega)]⟩
      rw [u.1, u.2.2.1]
theorem j_lastTime {σ μ : os_St} (hJ : j_ok σ μ) : (os_lastTime σ).1 = (om_lastTime μ).1 ∧ j_ok (os_lastTime σ).2 (om_lastTime μ).2 := by
  obtain ⟨inj, C, H, n, hx, hm, h4⟩ := id hJ
  unfold os_lastTime om_lastTime
  have ht : (200 : Int32).toInt = ((201 : Nat) : Int) - 1 := by decide
  obtain ⟨r1, r2, r3⟩ := j_reach hx ht
  obtain ⟨L, h, g1, g2, g3, g4, g5, g6, g7, g8⟩ := j_agree r1 (jm_keep hm (r3 0 (by omega)) (r3 1 (by omega)) (r3 2 (by omega))) r2 hx.2.2.1 ht
  dsimp only
  refine ⟨?_, inj, C, H, n, r1, g7, by rw [g8, h4, r3 4 (by omega)]⟩
  obtain ⟨b1, b2, b3⟩ := xk_mostF g1.1 96 (Nat.le_refl _)
  have hl := xk_last (L := L) (T := 201) g1.1 g1.2.2.2.1 r1.2.2.2.2.2.2.2.2 r2 b1 (fun e he hu _ => b2 e he hu) (by
    rcases b3 with w | ⟨e, w1, w2, w3⟩
    · exact Or.inl w
    · have := x_ti127 g1.1 w1
      exact Or.inr ⟨e, w1, w2, by omega, w3⟩)
  exact hs_last_uniq (fun p hp => (g2 p hp).symm) hl g6
theorem j_events {σ μ : os_St} (hJ : j_ok σ μ) : (os_events σ).1 = (om_events μ).1 ∧ j_ok (os_events σ).2 (om_events μ).2 := by
  obtain ⟨inj, C, H, n, hx, hm, h4⟩ := id hJ
  unfold os_events om_events
  have ht : (200 : Int32).toInt = ((201 : Nat) : Int) - 1 := by decide
  obtain ⟨r1, r2, r3⟩ := j_reach hx ht
  obtain ⟨L, h, g1, g2, g3, g4, g5, g6, g7, g8⟩ := j_agree r1 (jm_keep hm (r3 0 (by omega)) (r3 1 (by omega)) (r3 2 (by omega))) r2 hx.2.2.1 ht
  dsimp only
  refine ⟨?_, inj, C, H, n, r1, g7, by rw [g8, h4, r3 4 (by omega)]⟩
  rw [os_sumF_sum (f := fun q => (h q).length) 4 (fun q hq => (g5 q hq).2.1), om_all_sum (f := fun q => (h q).length) (fun q hq => (g5 q hq).2.2.2)]
theorem j_work {σ μ : os_St} (p y : Int32) (hJ : j_ok σ μ) : (os_work σ p y).1 = om_work μ p ∧ j_ok (os_work σ p y).2 μ := by
  obtain ⟨inj, C, H, n, hx, hm, h4⟩ := id hJ
  unfold os_work om_work
  rw [bad_eq]
  by_cases c1 : os_badP p = true
  · rw [if_pos c1, if_pos c1]
    exact ⟨rfl, hJ⟩
  · rw [if_neg c1, if_neg c1]
    obtain ⟨a, b⟩ := xi_workF (p := p) hx.2.1 (os_rounds y) σ hx.1
    dsimp only
    exact ⟨rfl, inj, C, H, n, jx_keep hx a b, jm_keep hm (b 0 (by omega)) (b 1 (by omega)) (b 2 (by omega)), by rw [h4, b 4 (by omega)]⟩
-- ===== inject =====
theorem j_inject {σ μ : os_St} (p t w : Int32) (hJ : j_ok σ μ) : (os_inject σ p t w).1 = (om_inject μ p t w).1 ∧ j_ok (os_inject σ p t w).2 (om_inject μ p t w).2 := by
  obtain ⟨inj, C, H, n, hx, hm, h4⟩ := id hJ
  obtain ⟨hq, hn, hH, h3, hl4, hC, hc, hf, hl⟩ := id hx
  obtain ⟨m1, m2, m3, m4⟩ := id hm
  unfold os_inject om_inject
  rw [bad_eq, h4]
  by_cases c1 : os_badP p = true
  · rw [if_pos c1, if_pos c1]
    exact ⟨rfl, hJ⟩
  · rw [if_neg c1, if_neg c1]
    by_cases c2 : t < 0 ∨ 99 < t
    · rw [if_pos c2, if_pos c2]
      exact ⟨rfl, hJ⟩
    · rw [if_neg c2, if_neg c2]
      by_cases c3 : t ≤ σ 4 0
      · rw [if_pos c3, if_pos c3]
        exact ⟨rfl, hJ⟩
      · rw [if_neg c3, if_neg c3]
        have e24 : (24 : Int32) = nI 24 := by decide
        by_cases c5 : n = 24
        · rw [if_pos (by rw [h3, c5, e24]; exact nI_le (Nat.le_refl _) (by omega)), if_pos (by rw [m3, c5, e24])]
          exact ⟨rfl, hJ⟩
        · have d1 : ¬ 24 ≤ σ 3 0 := by
            rw [h3, e24, nI_leI (by omega) (by omega)]
            omega
          have d2 : ¬ μ 3 0 = 24 := by
            rw [m3, e24, nI_eq (by omega) (by omega)]
            exact c5
          rw [if_neg d1, if_neg d2]
          have hv : vp_in p 4 := os_badP_in (by simpa using c1)
          have h0i : (0 : Int32).toInt = 0 := by decide
          have h99 : (99 : Int32).toInt = 99 := by decide
          have c2a : ¬ t < 0 := fun q => c2 (Or.inl q)
          have c2b : ¬ 99 < t := fun q => c2 (Or.inr q)
          rw [Int32.lt_iff_toInt_lt] at c2a c2b
          rw [Int32.le_iff_toInt_le] at c3
          have ht : vp_in t 100 := vp_in_iff.mpr ⟨by omega, by omega⟩
          have htn : t = nI (os_ix t) := os_vpe ht (by omega)
          have htl := os_vpn ht
          have hti : t.toInt = (os_ix t : Int) := by
            have := nI_toInt (n := os_ix t) (by omega)
            rw [← htn] at this
            exact this
          have hHt : H ≤ os_ix t := by omega
          obtain ⟨x1, x2, x3⟩ := xi_inject (p := p) (t := t) (w := w) (show n < 24 by omega) hq hv ht hHt
          have hlv := x_ix3 (w >>> ((4 : Int32) &&& 31))
          -- the model's side
          have k3 : ∀ k, k ≠ 5 → (os_set μ 5 0 (μ 3 0)) k = μ k := fun k hk => os_set_k hk
          have ei1 : om_inj1 μ p t w = om_putN (os_set μ 5 0 (μ 3 0)) n p t (w &&& 15) ((w >>> ((4 : Int32) &&& 31)) &&& 3) := by
            rw [om_inj1]
            exact om_put_eq (by rw [os_set_s]; exact m3) (by omega)
          have b3 : (om_inj1 μ p t w) 3 = μ 3 := by
            rw [ei1, pn_k (by decide) (by decide) (by decide) (by decide) (by decide) (by decide)]
            exact k3 3 (by decide)
          have e3 : (om_inj2 μ p t w) 3 0 = μ 3 0 + 1 := by rw [om_inj2, os_set_s, b3]
          have ek : ∀ k, k ≠ 3 → (om_inj2 μ p t w) k = (om_putN (os_set μ 5 0 (μ 3 0)) n p t (w &&& 15) ((w >>> ((4 : Int32) &&& 31)) &&& 3)) k := fun k hk => by rw [om_inj2, os_set_k hk, ei1]
          have el : ∀ k, k < 5 → k ≠ 3 → (om_inj2 μ p t w) k = μ k := fun k hk hk3 => by
            rw [ek k hk3, pn_k (by omega) (by omega) (by omega) (by omega) (by omega) (by omega)]
            exact k3 k (by omega)
          have hwμ : x_wf (om_inj2 μ p t w) := x_wf_eq (ek 6 (by decide)) (ek 7 (by decide)) (ek 8 (by decide)) (ek 9 (by decide)) (pn_wf (x_wf_eq (k3 6 (by decide)) (k3 7 (by decide)) (k3 8 (by decide)) (k3 9 (by decide)) m1) hv (by rw [htn]; exact vp_in_nI (by omega) (by omega)) (pk_andIn _ (m := 15) 4 (by decide) (by decide)) (pk_andIn _ (m := 3) 2 (by decide) (by decide)) (by omega))
          have hat : ∀ x, os_num (x_at (om_inj2 μ p t w) x) n = os_num (x_at μ x) n := fun x => m_num_at (fun k a b i hi => by
            rw [ek k (by omega), pn_f k a b i hi, k3 k (by omega)]) x
          have hnew : x_pr (om_inj2 μ p t w) n = os_ix p ∧ x_key (om_inj2 μ p t w) n = os_ix t * 64 + os_ix (w &&& 15) * 4 + os_ix ((w >>> ((4 : Int32) &&& 31)) &&& 3) := by
            unfold x_pr x_key
            rw [ek 6 (by decide), ek 7 (by decide), ek 8 (by decide), ek 9 (by decide), pn_6, pn_7, pn_8, pn_9, if_pos rfl, if_pos rfl, if_pos rfl, if_pos rfl]
            exact ⟨rfl, rfl⟩
          dsimp only
          refine ⟨by rw [x3, e3, h3, m3], inj ++ [(os_ix p, os_ix t * 64 + os_ix (w &&& 15) * 4 + os_ix ((w >>> ((4 : Int32) &&& 31)) &&& 3))], C, H, n + 1, ⟨x1, by omega, hH, by rw [x3, h3, nI_1], by rw [x2 4 (by omega) (by omega)]; exact hl4, hC, ?_, fun q hq2 => ?_, by rw [x2 16 (by omega) (by omega)]; exact hl⟩, ⟨hwμ, fun q hq2 => ?_, by rw [e3, m3, nI_1], fun x => ?_⟩, by rw [el 4 (by omega) (by omega), h4, x2 4 (by omega) (by omega)]⟩
          · refine hs_cons_rules (ρ := σ) (fun q _ => by rw [x2 0 (by omega) (by omega)]) (fun q _ => by rw [x2 1 (by omega) (by omega)]) (fun q _ => by rw [x2 2 (by omega) (by omega)]) ⟨hc.1, fun q hq2 k hk => ?_⟩
            rw [hc.2 q hq2 k hk, List.count_append, List.count_singleton, if_neg, Nat.add_zero]
            intro z
            rw [beq_iff_eq, Prod.mk.injEq] at z
            omega
          · rw [x2 14 (by omega) (by omega), x2 15 (by omega) (by omega)]
            exact hf q hq2
          · rw [el 0 (by omega) (by omega), el 1 (by omega) (by omega), el 2 (by omega) (by omega), x2 0 (by omega) (by omega), x2 1 (by omega) (by omega), x2 2 (by omega) (by omega)]
            exact m2 q hq2
          · obtain ⟨q, k⟩ := x
            rw [List.count_append, m4, os_num, hat, List.count_singleton]
            congr 1
            have : (x_at (om_inj2 μ p t w) (q, k) n = true) ↔ ((os_ix p, os_ix t * 64 + os_ix (w &&& 15) * 4 + os_ix ((w >>> ((4 : Int32) &&& 31)) &&& 3)) == (q, k)) = true := by
              unfold x_at
              rw [Bool.and_eq_true, decide_eq_true_iff, decide_eq_true_iff, beq_iff_eq, Prod.mk.injEq, hnew.1, hnew.2]
            by_cases z : x_at (om_inj2 μ p t w) (q, k) n = true
            · rw [if_pos z, if_pos (this.mp z)]
            · rw [if_neg z, if_neg (fun y => z (this.mpr y))]
-- ===== an empty table =====
theorem j_empty {σ μ : os_St} {H : Nat} (hw : x_wf σ) (hr : x_rules σ) (h5 : ∀ e, e < 96 → σ 5 e = 0) (h13 : ∀ p, p < 4 → σ 13 p = 0 ∧ σ 14 p = 0 ∧ σ 15 p = 0) (h16 : σ 16 0 = -1) (h18 : σ 18 0 = 0) (hb : os_bd 96 σ) (hH : H ≤ 201) (h3 : σ 3 0 = 0) (h4 : (σ 4 0).toInt = (H : Int) - 1) (hwm : x_wf μ) (hrm : ∀ p, p < 4 → μ 0 p = σ 0 p ∧ μ 1 p = σ 1 p ∧ μ 2 p = σ 2 p) (m3 : μ 3 0 = 0) (m4 : μ 4 0 = σ 4 0) : j_ok σ μ := by
  have hz : ∀ (f : Nat → Bool), (∀ e, e < 96 → σ 5 e = 0 → f e = false) → os_num f 96 = 0 := fun f hf => os_num_zero (fun e he => hf e he (h5 e he))
  refine ⟨[], fun _ => [], H, 0, ⟨⟨⟨fun _ => [], hw, hr, fun e he hu => absurd (h5 e he) hu, fun p hp => ⟨fun e => ⟨fun q => absurd q List.not_mem_nil, fun q => absurd (h5 e q.1) q.2.1⟩, List.Pairwise.nil, (h13 p hp).1⟩, fun d e hd he du => absurd (h5 d hd) du, fun e he hu => absurd (h5 e he) hu, fun e he hu => absurd (h5 e he) hu, ⟨List.nodup_nil, fun _ q => absurd q List.not_mem_nil⟩, fun q k hq hk => ?_, ?_⟩, h18, hb⟩, by omega, hH, by rw [h3, nI_0], h4, fun p hp k hk => absurd hk List.not_mem_nil, ⟨fun p hp => List.Pairwise.nil, fun q hq k hk => rfl⟩, fun p hp => ⟨(h13 p hp).2.1, (h13 p hp).2.2⟩, ?_⟩, ⟨hwm, hrm, by rw [m3, nI_0], fun x => rfl⟩, m4⟩
  · rw [hz (x_Uf σ (q, k)) (fun e _ h => by unfold x_Uf; simp [h]), hz (x_Sf σ (q, k)) (fun e _ h => by unfold x_Sf; simp [h])]
    rfl
  · rw [hz (x_lf σ) (fun e _ h => by unfold x_lf; simp [h])]
    exact Nat.zero_le _
  · rw [h16]
    exact ⟨0, by decide, fun p hp k hk => absurd hk List.not_mem_nil, Or.inl rfl⟩
-- ===== clear =====
theorem os_clr2_k {σ : os_St} {k : Nat} (h : k ≠ 5) : ∀ (n : Nat), os_clr2 σ n k = σ k
  | 0 => rfl
  | n + 1 => by rw [os_clr2, os_set_k h, os_clr2_k h n]
theorem os_clr2_5 {σ : os_St} {i : Nat} : ∀ (n : Nat), i < n → os_clr2 σ n 5 i = 0
  | 0, h => by omega
  | n + 1, h => by
    rw [os_clr2, os_set_if]
    split
    · rfl
    · exact os_clr2_5 n (by omega)
theorem os_clr3_k {σ : os_St} {k : Nat} (h : k ≠ 13) (h2 : k ≠ 14) (h3 : k ≠ 15) : ∀ (n : Nat), os_clr3 σ n k = σ k
  | 0 => rfl
  | n + 1 => by rw [os_clr3, os_set_k h3, os_set_k h2, os_set_k h, os_clr3_k h h2 h3 n]
theorem os_clr3_v {σ : os_St} {i : Nat} : ∀ (n : Nat), i < n → os_clr3 σ n 13 i = 0 ∧ os_clr3 σ n 14 i = 0 ∧ os_clr3 σ n 15 i = 0
  | 0, h => by omega
  | n + 1, h => by
    rw [os_clr3]
    by_cases z : i = n
    · subst z
      refine ⟨?_, ?_, ?_⟩
      · rw [os_set_k (by decide), os_set_k (by decide), os_set_s]
      · rw [os_set_k (by decide), os_set_s]
      · rw [os_set_s]
    · obtain ⟨a, b, c⟩ := os_clr3_v (σ := σ) (i := i) n (by omega)
      refine ⟨?_, ?_, ?_⟩
      · rw [os_set_k (by decide), os_set_k (by decide), os_set_i z]; exact a
      · rw [os_set_k (by decide), os_set_i z, os_set_k (by decide)]; exact b
      · rw [os_set_i z, os_set_k (by decide), os_set_k (by decide)]; exact c
theorem os_clear_k {σ : os_St} {k : Nat} (h : k < 3 ∨ (6 ≤ k ∧ k ≤ 12) ∨ k = 17) : (os_clear σ) k = σ k := by
  rw [os_clear, os_clr3_k (by omega) (by omega) (by omega), os_clr2_k (by omega), os_clr1, os_set_k (by omega), os_set_k (by omega), os_set_k (by omega), os_set_k (by omega)]
theorem os_clear_v {σ : os_St} : (os_clear σ) 3 0 = 0 ∧ (os_clear σ) 4 0 = -1 ∧ (os_clear σ) 16 0 = -1 ∧ (os_clear σ) 18 0 = 0 := by
  refine ⟨?_, ?_, ?_, ?_⟩ <;> rw [os_clear, os_clr3_k (by decide) (by decide) (by decide), os_clr2_k (by decide), os_clr1]
  · rw [os_set_k (by decide), os_set_k (by decide), os_set_k (by decide), os_set_s]
  · rw [os_set_k (by decide), os_set_k (by decide), os_set_s]
  · rw [os_set_k (by decide), os_set_s]
  · rw [os_set_s]
theorem os_clear_5 {σ : os_St} {e : Nat} (he : e < 96) : (os_clear σ) 5 e = 0 := by
  rw [os_clear, os_clr3_k (by decide) (by decide) (by decide), os_clr2_5 96 he]
theorem clear_ok {σ μ : os_St} (hw : x_wf σ) (hr : x_rules σ) (b1 : ∀ e, e < 96 → ¬ σ 12 e < 0 → vp_in (σ 12 e) 96) (b2 : ∀ j, j < 96 → vp_in (σ 17 j) 96) (hwm : x_wf μ) (hrm : ∀ p, p < 4 → μ 0 p = σ 0 p ∧ μ 1 p = σ 1 p ∧ μ 2 p = σ 2 p) (m3 : μ 3 0 = 0) (m4 : μ 4 0 = -1) : j_ok (os_clear σ) μ := by
  have e0 := os_clear_k (σ := σ) (k := 0) (by omega)
  have e1 := os_clear_k (σ := σ) (k := 1) (by omega)
  have e2 := os_clear_k (σ := σ) (k := 2) (by omega)
  have e6 := os_clear_k (σ := σ) (k := 6) (by omega)
  have e7 := os_clear_k (σ := σ) (k := 7) (by omega)
  have e8 := os_clear_k (σ := σ) (k := 8) (by omega)
  have e9 := os_clear_k (σ := σ) (k := 9) (by omega)
  have e12 := os_clear_k (σ := σ) (k := 12) (by omega)
  have e17 := os_clear_k (σ := σ) (k := 17) (by omega)
  obtain ⟨v3, v4, v16, v18⟩ := os_clear_v (σ := σ)
  have hw' : x_wf (os_clear σ) := x_wf_eq e6 e7 e8 e9 hw
  refine j_empty (H := 0) hw' (x_rules_eq e0 e1 hr) (fun e he => os_clear_5 he) (fun p hp => os_clr3_v 4 hp) v16 v18 ⟨Nat.le_refl _, fun e he => (hw' e he).1, by rw [e12]; exact b1, by rw [e17]; exact b2, fun p hp => by rw [e0]; exact (hr p hp).1, 0, by rw [v18, nI_0], ?_⟩ (by omega) v3 (by rw [v4]; decide) hwm (by rw [e0, e1, e2]; exact hrm) m3 (by rw [m4, v4])
  have := os_num_le (f := fun e => decide (¬ (os_clear σ) 12 e < 0)) 96
  unfold os_cs
  omega
theorem j_clear {σ μ : os_St} (hJ : j_ok σ μ) : j_ok (os_clear σ) (om_clear μ) := by
  obtain ⟨inj, C, H, n, hx, hm, h4⟩ := id hJ
  obtain ⟨⟨L, hI⟩, -, hb⟩ := hx.1
  have k : ∀ k, k ≠ 3 → k ≠ 4 → k ≠ 5 → (om_clear μ) k = μ k := fun k a b c => by rw [om_clear, os_set_k b, os_set_k c, os_set_k a]
  refine clear_ok hI.1 hI.2.1 hb.2.2.1 hb.2.2.2.1 (x_wf_eq (k 6 (by decide) (by decide) (by decide)) (k 7 (by decide) (by decide) (by decide)) (k 8 (by decide) (by decide) (by decide)) (k 9 (by decide) (by decide) (by decide)) hm.1) ?_ ?_ ?_
  · rw [k 0 (by decide) (by decide) (by decide), k 1 (by decide) (by decide) (by decide), k 2 (by decide) (by decide) (by decide)]
    exact hm.2.1
  · rw [om_clear, os_set_k (by decide), os_set_k (by decide), os_set_s]
  · rw [om_clear, os_set_s]
theorem os_ini_k {σ : os_St} {k : Nat} (h : k ≠ 1) (h2 : k ≠ 2) : ∀ (n : Nat), os_ini σ n k = σ k
  | 0 => rfl
  | n + 1 => by rw [os_ini, os_set_k h2, os_set_k h, os_ini_k h h2 n]
theorem os_ini_1 {σ : os_St} {i : Nat} : ∀ (n : Nat), i < n → os_ini σ n 1 i = 1
  | 0, h => by omega
  | n + 1, h => by
    rw [os_ini, os_set_k (by decide), os_set_if]
    split
    · rfl
    · exact os_ini_1 n (by omega)
theorem zero_wf {σ : os_St} (h6 : σ 6 = os_zero 6) (h7 : σ 7 = os_zero 7) (h8 : σ 8 = os_zero 8) (h9 : σ 9 = os_zero 9) : x_wf σ := by
  intro e he
  rw [h6, h7, h8, h9]
  have : ∀ n, 0 < n → n < 2 ^ 31 → vp_in (0 : Int32) n := fun n a b => by rw [← nI_0]; exact vp_in_nI a b
  exact ⟨this 4 (by omega) (by omega), this 127 (by omega) (by omega), this 16 (by omega) (by omega), this 4 (by omega) (by omega), show os_ix (0 : Int32) + 9 * os_ix (0 : Int32) ≤ 126 by decide⟩
theorem j_start : j_ok os_start om_start := by
  have k : ∀ k, k ≠ 1 → k ≠ 2 → (os_ini os_zero 4) k = os_zero k := fun k a b => os_ini_k a b 4
  have k2 : ∀ k, k ≠ 4 → om_start k = (os_ini os_zero 4) k := fun k a => by rw [om_start, os_set_k a]
  refine clear_ok (zero_wf (k 6 (by decide) (by decide)) (k 7 (by decide) (by decide)) (k 8 (by decide) (by decide)) (k 9 (by decide) (by decide))) (fun p hp => ?_) (fun e he _ => ?_) (fun j hj => ?_) (zero_wf ?_ ?_ ?_ ?_) (fun p hp => ?_) ?_ ?_
  · rw [k 0 (by decide) (by decide), os_ini_1 4 hp]
    refine ⟨?_, ?_, by decide⟩
    · show vp_in (0 : Int32) 4
      rw [← nI_0]
      exact vp_in_nI (by omega) (by omega)
    · show vp_in (nI 1) 10
      exact vp_in_nI (by omega) (by omega)
  · rw [k 12 (by decide) (by decide)]
    show vp_in (0 : Int32) 96
    rw [← nI_0]
    exact vp_in_nI (by omega) (by omega)
  · rw [k 17 (by decide) (by decide)]
    show vp_in (0 : Int32) 96
    rw [← nI_0]
    exact vp_in_nI (by omega) (by omega)
  · rw [k2 6 (by decide), k 6 (by decide) (by decide)]
  · rw [k2 7 (by decide), k 7 (by decide) (by decide)]
  · rw [k2 8 (by decide), k 8 (by decide) (by decide)]
  · rw [k2 9 (by decide), k 9 (by decide) (by decide)]
  · rw [k2 0 (by decide), k2 1 (by decide), k2 2 (by decide)]
    exact ⟨rfl, rfl, rfl⟩
  · rw [k2 3 (by decide), k 3 (by decide) (by decide)]
    rfl
  · rw [om_start, os_set_s]
end
section
/-! THE PLAIN LAW, 12: commit and rule; what the contracts ask -/
theorem hs_cons_cong {ρ : os_St} {inj : List (Nat × Nat)} {K : Nat} {ks ks' : Nat → List Nat} (he : ∀ p, p < 4 → ks p = ks' p) (h : hs_cons ρ inj K ks) : hs_cons ρ inj K ks' := by
  refine ⟨fun p hp => by rw [← he p hp]; exact h.1 p hp, fun q hq k hk => ?_⟩
  rw [← he q hq, h.2 q hq k hk]
  congr 1
  exact hs_s4_congr (fun p hp => by rw [he p hp])
set_option maxHeartbeats 1000000 in
theorem j_commit {σ μ : os_St} (t : Int32) (hJ : j_ok σ μ) : (os_commit σ t).1 = (om_commit μ t).1 ∧ j_ok (os_commit σ t).2 (om_commit μ t).2 := by
  obtain ⟨inj, C, H, n, hx, hm, h4⟩ := id hJ
  unfold os_commit om_commit
  rw [h4]
  by_cases c1 : t < 0 ∨ 200 < t
  · rw [if_pos c1, if_pos c1]
    exact ⟨rfl, hJ⟩
  · rw [if_neg c1, if_neg c1]
    by_cases c2 : t < σ 4 0
    · rw [if_pos c2, if_pos c2]
      exact ⟨rfl, hJ⟩
    · rw [if_neg c2, if_neg c2]
      obtain ⟨T, ht, hHT, hT⟩ := j_time hx c2 (fun q => c1 (Or.inr q))
      obtain ⟨r1, r2, r3⟩ := j_reach hx ht
      have hm2 : jm inj n (os_reach σ t) (os_set μ 4 0 t) := by
        obtain ⟨m1, m2, m3, m4⟩ := jm_keep hm (r3 0 (by omega)) (r3 1 (by omega)) (r3 2 (by omega))
        have k : ∀ k, k ≠ 4 → (os_set μ 4 0 t) k = μ k := fun k hk => os_set_k hk
        refine ⟨x_wf_eq (k 6 (by decide)) (k 7 (by decide)) (k 8 (by decide)) (k 9 (by decide)) m1, ?_, by rw [k 3 (by decide)]; exact m3, fun x => ?_⟩
        · rw [k 0 (by decide), k 1 (by decide), k 2 (by decide)]
          exact m2
        · rw [m_num_at (μ := μ) (fun j a b i _ => by rw [k j (by omega)]) x]
          exact m4 x
      obtain ⟨L, h, g1, g2, g3, g4, g5, g6, g7, g8⟩ := j_agree r1 hm2 r2 hHT ht
      rw [os_set_s] at g8
      generalize os_reach σ t = τ at *
      have fs := os_foldF_sum (σ := τ) (t := t) (f := fun q => (h q).length) 4 (fun q hq => (g5 q hq).2.1)
      have as := om_all_sum (f := fun q => (h q).length) (fun q hq => (g5 q hq).2.2.2)
      refine ⟨by dsimp only; rw [fs, as], ?_⟩
      dsimp only
      obtain ⟨f1, f2, -⟩ := os_foldF_ok (σ := τ) (t := t) 4
      generalize (os_foldF t τ 4).1 = φ at *
      have hwφ : x_wf φ := x_wf_eq (f1 6 (by decide) (by decide)) (f1 7 (by decide) (by decide)) (f1 8 (by decide) (by decide)) (f1 9 (by decide) (by decide)) g1.1
      have tφ : x_ti φ = x_ti τ := x_ti_eq (f1 6 (by decide) (by decide))
      obtain ⟨d1, d2, d3, d4, d5⟩ := xk_dropF hwφ ht 96 (Nat.le_refl _)
      rw [f1 16 (by decide) (by decide)] at d3 d5
      rw [tφ, f1 5 (by decide) (by decide)] at d2 d4 d5
      generalize os_dropF t φ 96 = δ at *
      have uk : ∀ k, k ≠ 4 → (os_set δ 4 0 t) k = δ k := fun k hk => os_set_k hk
      have kk : ∀ k, k ≠ 4 → k ≠ 5 → k ≠ 14 → k ≠ 15 → k ≠ 16 → (os_set δ 4 0 t) k = τ k := fun k a b c d e => by
        rw [uk k a, d1 k b e, f1 k c d]
      have hI' := xi_commit (T := T) (τ := os_set δ 4 0 t) g1 hHT (fun k a b c d => kk k c d (by omega) (by omega) (by omega)) (fun e he => by
        rw [uk 5 (by decide), d2 e]
        constructor
        · rintro ⟨a, b⟩
          exact ⟨a, by omega⟩
        · rintro ⟨a, b⟩
          exact ⟨a, by omega⟩)
      have hl := xk_last (v := δ 16 0) g1.1 g1.2.2.2.1 r1.2.2.2.2.2.2.2.2 r2 d3 (fun e he hu hlt => d4 e he hu hlt) (by
        rcases d5 with w | ⟨e, w⟩
        · exact Or.inl w
        · exact Or.inr ⟨e, w⟩)
      have hb := r1.1.2.2
      refine ⟨inj, fun p => C p ++ x_kl τ (x_lo τ T (L p)), T, n, ⟨⟨⟨_, hI'⟩, ?_, ?_⟩, hx.2.1, hT, ?_, by rw [os_set_s]; exact ht, fun p hp k hk => g4 p hp k (by rw [g2 p hp]; exact hk), ?_, fun p hp => ⟨?_, ?_⟩, ?_⟩, jm_keep g7 ?_ ?_ ?_, ?_⟩
      · rw [kk 18 (by decide) (by decide) (by decide) (by decide) (by decide)]
        exact r1.1.2.1
      · exact bd_of hb (fun e _ => by rw [kk 7 (by decide) (by decide) (by decide) (by decide) (by decide)]) (kk 12 (by decide) (by decide) (by decide) (by decide) (by decide)) (kk 17 (by decide) (by decide) (by decide) (by decide) (by decide)) (kk 0 (by decide) (by decide) (by decide) (by decide) (by decide)) (kk 18 (by decide) (by decide) (by decide) (by decide) (by decide))
      · rw [kk 3 (by decide) (by decide) (by decide) (by decide) (by decide)]
        exact r1.2.2.2.1
      · refine hs_cons_rules (ρ := τ) (fun p _ => ?_) (fun p _ => ?_) (fun p _ => ?_) (hs_cons_cong g2 g3)
        · rw [kk 0 (by decide) (by decide) (by decide) (by decide) (by decide)]
        · rw [kk 1 (by decide) (by decide) (by decide) (by decide) (by decide)]
        · rw [kk 2 (by decide) (by decide) (by decide) (by decide) (by decide)]
      · rw [uk 14 (by decide), d1 14 (by decide) (by decide), (f2 p hp).1, (g5 p hp).1, g2 p hp]
      · rw [uk 15 (by decide), d1 15 (by decide) (by decide), (f2 p hp).2, (g5 p hp).2.1, g2 p hp]
      · rw [uk 16 (by decide)]
        exact hl
      · exact kk 0 (by decide) (by decide) (by decide) (by decide) (by decide)
      · exact kk 1 (by decide) (by decide) (by decide) (by decide) (by decide)
      · exact kk 2 (by decide) (by decide) (by decide) (by decide) (by decide)
      · rw [g8, os_set_s]
set_option maxHeartbeats 1000000 in
theorem j_rule {σ μ : os_St} (a b c d : Int32) (hJ : j_ok σ μ) : (os_rule σ a b c d).1 = (om_rule μ a b c d).1 ∧ j_ok (os_rule σ a b c d).2 (om_rule μ a b c d).2 := by
  obtain ⟨inj, C, H, n, hx, hm, h4⟩ := id hJ
  obtain ⟨hq, hn, hH, h3, hl4, hC, hc, hf, hl⟩ := id hx
  obtain ⟨m1, m2, m3, m4⟩ := id hm
  unfold os_rule om_rule
  rw [bad_eq, bad_eq]
  by_cases c1 : os_badP a = true ∨ os_badP b = true
  · rw [if_pos c1, if_pos c1]
    exact ⟨rfl, hJ⟩
  · rw [if_neg c1, if_neg c1]
    by_cases c2 : c < 1 ∨ 9 < c ∨ d < 0 ∨ 15 < d
    · rw [if_pos c2, if_pos c2]
      exact ⟨rfl, hJ⟩
    · rw [if_neg c2, if_neg c2]
      by_cases c3 : n = 0
      · subst c3
        rw [if_neg (by rw [h3, nI_0]; decide), if_neg (by rw [m3, nI_0]; decide)]
        refine ⟨rfl, ?_⟩
        dsimp only
        have hva : vp_in a 4 := os_badP_in (by simpa using fun q => c1 (Or.inl q))
        have hvb : vp_in b 4 := os_badP_in (by simpa using fun q => c1 (Or.inr q))
        have h1i : (1 : Int32).toInt = 1 := by decide
        have h9i : (9 : Int32).toInt = 9 := by decide
        have k1 : ¬ c < 1 := fun q => c2 (Or.inl q)
        have k2 : ¬ 9 < c := fun q => c2 (Or.inr (Or.inl q))
        rw [Int32.lt_iff_toInt_lt] at k1 k2
        have hvc : vp_in c 10 := vp_in_iff.mpr ⟨by omega, by omega⟩
        have hvn : c = nI (os_ix c) := os_vpe hvc (by omega)
        have hvl := os_vpn hvc
        have hc1 : 1 ≤ os_ix c := by
          have := nI_toInt (n := os_ix c) (by omega)
          rw [← hvn] at this
          omega
        obtain ⟨⟨L, hI⟩, h18, hb⟩ := hq
        have hroom := xi_room hI
        have hu0 : ∀ e, e < 96 → σ 5 e = 0 := fun e he => Classical.byContradiction (fun z => by
          have := os_num_pos (f := fun e => decide (σ 5 e ≠ 0)) he (decide_eq_true z)
          omega)
        have hinj : inj = [] := List.eq_nil_iff_forall_not_mem.mpr (fun x hx => by
          have := List.count_pos_iff.mpr hx
          rw [m4 x] at this
          exact absurd this (Nat.lt_irrefl 0))
        have hce : hs_cons σ inj (H * 64) (fun _ => []) := by
          rw [hinj]
          exact ⟨fun p hp => List.Pairwise.nil, fun q hq k hk => rfl⟩
        have hC0 : ∀ p, p < 4 → C p = [] := fun p hp => by
          have u := hs_uniq (fun p hp => (hI.2.1 p hp).2.2) hc hce hp
          rw [hs_lt_all (hC p hp)] at u
          exact u
        have h13 : ∀ p, p < 4 → σ 13 p = 0 := fun p hp => by
          obtain ⟨hm1, -, hch⟩ := hI.2.2.2.1 p hp
          have hL : L p = [] := List.eq_nil_iff_forall_not_mem.mpr (fun e he => by
            have := (hm1 e).mp he
            exact this.2.1 (hu0 e this.1))
          rw [hL, hC0 p hp] at hch
          exact hch
        have h16 : σ 16 0 = -1 := hs_last_uniq (ks' := fun _ => []) hC0 hl ⟨0, by decide, fun p hp k hk => absurd hk List.not_mem_nil, Or.inl rfl⟩
        have kx : ∀ k, 3 ≤ k → (os_set (os_set (os_set σ 0 (os_ix a) b) 1 (os_ix a) c) 2 (os_ix a) d) k = σ k := fun k hk => by
          rw [os_set_k (by omega), os_set_k (by omega), os_set_k (by omega)]
        have km : ∀ k, 3 ≤ k → (os_set (os_set (os_set μ 0 (os_ix a) b) 1 (os_ix a) c) 2 (os_ix a) d) k = μ k := fun k hk => by
          rw [os_set_k (by omega), os_set_k (by omega), os_set_k (by omega)]
        have w0 : ∀ (ρ : os_St) p, (os_set (os_set (os_set ρ 0 (os_ix a) b) 1 (os_ix a) c) 2 (os_ix a) d) 0 p = if p = os_ix a then b else ρ 0 p := fun ρ p => by
          rw [os_set_k (by decide), os_set_k (by decide), os_set_if]
        have w1 : ∀ (ρ : os_St) p, (os_set (os_set (os_set ρ 0 (os_ix a) b) 1 (os_ix a) c) 2 (os_ix a) d) 1 p = if p = os_ix a then c else ρ 1 p := fun ρ p => by
          rw [os_set_k (by decide), os_set_if, os_set_k (by decide)]
        have w2 : ∀ (ρ : os_St) p, (os_set (os_set (os_set ρ 0 (os_ix a) b) 1 (os_ix a) c) 2 (os_ix a) d) 2 p = if p = os_ix a then d else ρ 2 p := fun ρ p => by
          rw [os_set_if, os_set_k (by decide), os_set_k (by decide)]
        have hr' : x_rules (os_set (os_set (os_set σ 0 (os_ix a) b) 1 (os_ix a) c) 2 (os_ix a) d) := fun p hp => by
          rw [w0, w1]
          by_cases z : p = os_ix a
          · rw [if_pos z, if_pos z]
            exact ⟨hvb, hvc, hc1⟩
          · rw [if_neg z, if_neg z]
            exact hI.2.1 p hp
        have hrm : ∀ p, p < 4 → (os_set (os_set (os_set μ 0 (os_ix a) b) 1 (os_ix a) c) 2 (os_ix a) d) 0 p = (os_set (os_set (os_set σ 0 (os_ix a) b) 1 (os_ix a) c) 2 (os_ix a) d) 0 p ∧ (os_set (os_set (os_set μ 0 (os_ix a) b) 1 (os_ix a) c) 2 (os_ix a) d) 1 p = (os_set (os_set (os_set σ 0 (os_ix a) b) 1 (os_ix a) c) 2 (os_ix a) d) 1 p ∧ (os_set (os_set (os_set μ 0 (os_ix a) b) 1 (os_ix a) c) 2 (os_ix a) d) 2 p = (os_set (os_set (os_set σ 0 (os_ix a) b) 1 (os_ix a) c) 2 (os_ix a) d) 2 p := fun p hp => by
          obtain ⟨e0, e1, e2⟩ := m2 p hp
          rw [w0, w1, w2, w0, w1, w2, e0, e1, e2]
          exact ⟨rfl, rfl, rfl⟩
        generalize os_set (os_set (os_set σ 0 (os_ix a) b) 1 (os_ix a) c) 2 (os_ix a) d = τ at *
        generalize os_set (os_set (os_set μ 0 (os_ix a) b) 1 (os_ix a) c) 2 (os_ix a) d = ν at *
        refine j_empty (H := H) (x_wf_eq (kx 6 (by omega)) (kx 7 (by omega)) (kx 8 (by omega)) (kx 9 (by omega)) hI.1) hr' (by rw [kx 5 (by omega)]; exact hu0) (fun p hp => ?_) (by rw [kx 16 (by omega)]; exact h16) (by rw [kx 18 (by omega)]; exact h18) ?_ hH (by rw [kx 3 (by omega), h3, nI_0]) (by rw [kx 4 (by omega)]; exact hl4) (x_wf_eq (km 6 (by omega)) (km 7 (by omega)) (km 8 (by omega)) (km 9 (by omega)) m1) hrm (by rw [km 3 (by omega), m3, nI_0]) (by rw [km 4 (by omega), kx 4 (by omega), h4])
        · rw [kx 13 (by omega), kx 14 (by omega), kx 15 (by omega), (hf p hp).1, (hf p hp).2, hC0 p hp]
          exact ⟨h13 p hp, rfl, nI_0⟩
        · obtain ⟨b1, b2, b3, b4, b5, b6⟩ := hb
          refine ⟨b1, by rw [kx 7 (by omega)]; exact b2, by rw [kx 12 (by omega)]; exact b3, by rw [kx 17 (by omega)]; exact b4, fun p hp => (hr' p hp).1, 0, by rw [kx 18 (by omega), h18, nI_0], ?_⟩
          have := os_num_le (f := fun e => decide (¬ τ 12 e < 0)) 96
          unfold os_cs
          omega
      · rw [if_pos (by rw [h3, ← nI_0]; exact nI_lt (by omega) (by omega)), if_pos (by rw [m3, ← nI_0]; exact nI_lt (by omega) (by omega))]
        exact ⟨rfl, hJ⟩
-- ===== what the contracts ask =====
theorem m_bd {inj : List (Nat × Nat)} {n : Nat} {σ μ ν : os_St} (hr : x_rules σ) (hn : n ≤ 24) (hm : jm inj n σ μ) (h0 : ν 0 = μ 0) (h3 : ν 3 = μ 3) (h7 : ν 7 = μ 7) : om_bd (om_sim0 ν) := by
  refine ⟨fun i hi => ?_, fun p hp => ?_, n, by omega, ?_⟩
  · rw [om_sim0_k (by decide) (by decide) (by decide) (by decide) (by decide), h7]
    exact (hm.1 i hi).1
  · rw [om_sim0_k (by decide) (by decide) (by decide) (by decide) (by decide), h0, (hm.2.1 p hp).1]
    exact (hr p hp).1
  · rw [om_sim0_5, h3]
    exact hm.2.2.1
theorem j_bd {σ μ : os_St} (hJ : j_ok σ μ) : (os_bd 96 σ ∧ σ 18 0 = 0) ∧ (∀ t : Int32, om_bd (om_sim0 (os_set μ 4 0 t))) ∧ om_bd (om_sim0 μ) ∧ ¬ μ 3 0 < 0 := by
  obtain ⟨inj, C, H, n, hx, hm, h4⟩ := id hJ
  obtain ⟨⟨L, hI⟩, h18, hb⟩ := hx.1
  have hn := hx.2.1
  refine ⟨⟨hb, h18⟩, fun t => m_bd hI.2.1 hn hm (os_set_k (by decide)) (os_set_k (by decide)) (os_set_k (by decide)), m_bd hI.2.1 hn hm rfl rfl rfl, ?_⟩
  rw [hm.2.2.1]
  exact os_nneg (by omega)
end
section
/-! THE CLAIM OUT OF ONE WALK OF THE LAW'S BODY. Your part is whole_start (and what it stands on); all else here is the same for every law, but numbers. -/
def R_law : String := "OptimisticSimLaw"
def lw_P (b : Addr) (xs : List Int32) (args : Array Value) (s : State) : Prop := args = #[.ref b] ∧ s.IntsAt b xs ∧ xs.length ≤ 320 ∧ (Jvm.Cond.and given_1 narrow_1).before args s = true
def lw_Q (_ : Array Value) (s : State) (o : Outcome) (t : State) : Prop := o = .returned (some (.int 1)) ∧ Framed s o t [] 600000 7290000
def lw_Z (below : List Frame) (a : Array Value) (s : State) : State → Prop := fun t => ∃ o, t.status = .running ∧ Ended t below o ∧ lw_Q a s o t
/-- the law's own end, with 1 on the stack, nothing written that was there before, its room as the claim has it -/
theorem lw_ret {p : Program} {l : Launch} {e : Env} {s : State} {m : MethodId} {below : List Frame} {meth : Method} {c : Code} {b : Nat} (hx : p.tables.exec = Jvm.exec) (hb : c.code = code) (hr : meth.sig.returnType = ret) (hlocks : meth.locks = false) {pc : Nat} {H : Heap} {ls : Array Slot} (hdg : decode code pc = .ok (.ireturn, 1)) : W p l e room_1 s m #[Value.ref b] below meth c H [] 600000 7290000 (lw_Z below #[Value.ref b] s) (F0 m pc ls [.int 1]) := by
  intro T hT X
  obtain ⟨fs, hret, hrun, hended, hW, hframe⟩ := X.leave (v := some (.int 1)) (hlocks := hlocks) (fun h => by rw [hr] at h; cases h)
  have hmeth' : T.vm.method? m = some meth := X.method'
  refine ⟨T.setFrames fs, ?_, .returned (some (.int 1)), hrun, hended, rfl, ⟨_, rfl⟩, hW, hframe⟩
  jvm_step X.here [X.here.top, hx, hb, hdg, hmeth', hr, ret, narrow_b1]
  (try refine ⟨rfl, ?_⟩); (try refine ⟨rfl, ?_⟩)
  first | (intro acts; rw [hret _ acts rfl rfl rfl]) | rw [hret _ _ rfl rfl rfl]
  exact Steps.refl _
/-- what holds at the law's entry: the machine, the code, the tables' words (any of lw_tbl by 'hts w (by decide +kernel)'), the script of L ints xs at the cell b, what the Statement gives of the start (any of its parts by flat_of_before) -/
def lw_At (p : Program) (s : State) (m : MethodId) (meth : Method) (c : Code) (b L : Nat) (xs : Nat → Int32) : Prop :=
  p.tables.exec = Jvm.exec ∧ c.code = code ∧ meth.sig.returnType = ret ∧ c.maxLocals = 4 ∧ s.vm.findClass R_law = some m.cls ∧ (∀ w ∈ lw_tbl, w.before #[Value.ref b] s = true) ∧ va_X b L xs s s.heap ∧ b < s.heap.size ∧ meth.locks = false ∧ (Jvm.Cond.and given_1 narrow_1).before #[Value.ref b] s = true

theorem om_kept {D : va_G} {cI cZ : ClassId} {h : Nat} {ad : Nat → Nat} {μ : os_St} {H H1 : Heap} (hO : om_P D cI cZ h ad μ H) (hq : ∀ q : Nat, q < H.size → om_A h ad q → H1[q]? = H[q]?) : om_P D cI cZ h ad μ H1 := ⟨hO.1.kept (fun k q hk => hq q.1 (hO.1 k q hk).lt (hO.2.2 k q hk)), hO.2⟩
theorem ox_kept {D : va_G} {cI cZ : ClassId} {h : Nat} {ad : Nat → Nat} {μ : os_St} {H H1 : Heap} (hO : ox_P D cI cZ h ad μ H) (hq : ∀ q : Nat, q < H.size → ox_A h ad q → H1[q]? = H[q]?) : ox_P D cI cZ h ad μ H1 := ⟨hO.1.kept (fun k q hk => hq q.1 (hO.1 k q hk).lt (hO.2.2 k q hk)), hO.2⟩
/-- the law's world between two calls: both objects, apart, all made by the law -/
def lj_W (D : va_G) (cI cZ : ClassId) (s : State) (hX : Nat) (aX : Nat → Nat) (hM : Nat) (aM : Nat → Nat) (σ μ : os_St) (H : Heap) (locs : List Loc) : Prop :=
  ox_P D cI cZ hX aX σ H ∧ om_P D cI cZ hM aM μ H ∧ (∀ q, ox_A hX aX q → s.heap.size ≤ q ∧ ¬ om_A hM aM q) ∧ (∀ q, om_A hM aM q → s.heap.size ≤ q) ∧ va_S (fun q : Nat => s.heap.size ≤ q) s.heap H locs
/-- the law stands at pc with i ints read, and the two objects agree -/
def lj_at (p : Program) (l : Launch) (e : Env) (s : State) (m : MethodId) (below : List Frame) (meth : Method) (c : Code) (D : va_G) (cI cZ : ClassId) (hX hM b : Nat) (aX aM : Nat → Nat) (pc i : Nat) : Prop :=
  ∀ (σ μ : os_St), j_ok σ μ → ∀ (H : Heap) (locs : List Loc), lj_W D cI cZ s hX aX hM aM σ μ H locs → ∀ ls : Array Slot, lv_has ls 4 [(0, .ref b), (1, .ref hX), (2, .ref hM), (3, .int (nI i))] → W p l e room_1 s m #[Value.ref b] below meth c H locs 27 1421 (lw_Z below #[Value.ref b] s) (F0 m pc ls [])
section LJ
variable {p : Program} {l : Launch} {e : Env} {R : Room} {s : State} {m : MethodId} {args : Array Value} {below : List Frame} {meth : Method} {c : Code} {H : Heap} {locs : List Loc} {cells slots : Nat} {Q : State → Prop} {cc : ByteArray} {pc : Nat} {ls : Array Slot} {rest : List Value} {D : va_G} {cI cZ : ClassId} {hX hM nL : Nat} {aX aM : Nat → Nat} {σ μ : os_St}
theorem lj_arg {b L : Nat} {xs : Nat → Int32} {x k : Int32} {kn : Int} (hexec : p.tables.exec = Jvm.exec) (hb : c.code = cc) (hXs : va_X b L xs s s.heap) (hbl : b < s.heap.size) (hS : va_S (fun q : Nat => s.heap.size ≤ q) s.heap H locs) (h0 : ls[0]? = some (.val (.ref b))) (h3 : ls[3]? = some (.val (.int x))) (hin : vp_in (x + k) L) (d0 : decode cc pc = .ok (.aload_n 0, 1)) (d1 : decode cc (pc + 1) = .ok (.iload_n 3, 1)) (d2 : decode cc (pc + 2) = .ok (.iconst kn, 1)) (hk : Int32.ofInt kn = k) (d3 : decode cc (pc + 3) = .ok (.iadd, 1)) (d4 : decode cc (pc + 4) = .ok (.iaload, 1))
    (kk : W p l e R s m args below meth c H locs cells slots Q (F0 m (pc + 5) ls (.int (xs (x + k).toNatClampNeg) :: rest))) : W p l e R s m args below meth c H locs cells slots Q (F0 m pc ls rest) := by
  refine lv_aload_n hexec hb d0 rfl h0 ?_
  refine lv_iload_n hexec hb d1 rfl h3 ?_
  refine lv_iconst (v := k) hexec hb d2 hk ?_
  refine lv_iadd hexec hb d3 ?_
  exact va_sld hexec hb hXs hbl (Nat.not_le.mpr hbl) hS hin d4 kk
theorem lj_xi {y : MethodName} {bytes : ByteArray} {maxL n index : Nat} {rt : FieldType} {rm : Room} {As : List Value} {σ' : os_St} {own : String} {st0 : List Value} {r : Int32} (C : os_cx own p s m args c cc nL D cI cZ) (hW : lj_W D cI cZ s hX aX hM aM σ μ H locs) (hMet : os_MI l y bytes maxL rt rm (ox_A hX aX) (.ref hX :: As) (ox_W D cI cZ hX aX σ) (ox_W D cI cZ hX aX σ') r) (cw : CallW R s args own RX0 index y bytes maxL (some rt) (ws_ y bytes maxL (some rt)) rm 0 0 n) (hst : st0 = As.reverse ++ .ref hX :: rest) (hn : As.length = n) (hsz : ls.size = nL) (hroom : (rest.map fun v => v.category).sum ≤ 8) (d : decode cc pc = .ok (.invokevirtual index, 3)) (hc : cells ≤ R.cells ∧ slots ≤ R.slots) (kk : ∀ (H1 : Heap) (locs1 : List Loc), lj_W D cI cZ s hX aX hM aM σ' μ H1 locs1 → W p l e R s m args below meth c H1 locs1 cells slots Q (F0 m (pc + 3) ls (.int r :: rest))) : W p l e R s m args below meth c H locs cells slots Q (F0 m pc ls st0) :=
  ox_ci0 C hMet cw hW.1 hW.2.2.2.2 (fun q h => (hW.2.2.1 q h).1) hst hn hsz hroom d hc (fun H1 locs1 h1 h2 h3 => kk H1 locs1 ⟨h1, om_kept hW.2.1 (fun q hq hA => h3 q hq (fun z => (hW.2.2.1 q z).2 hA)), hW.2.2.1, hW.2.2.2.1, h2⟩)
theorem lj_xv {y : MethodName} {bytes : ByteArray} {maxL n index : Nat} {rm : Room} {As : List Value} {σ' : os_St} {own : String} {st0 : List Value} (C : os_cx own p s m args c cc nL D cI cZ) (hW : lj_W D cI cZ s hX aX hM aM σ μ H locs) (hMet : os_MV l y bytes maxL rm (ox_A hX aX) (.ref hX :: As) (ox_W D cI cZ hX aX σ) (ox_W D cI cZ hX aX σ')) (cw : CallW R s args own RX0 index y bytes maxL none (ws_ y bytes maxL none) rm 0 0 n) (hst : st0 = As.reverse ++ .ref hX :: rest) (hn : As.length = n) (hsz : ls.size = nL) (hroom : (rest.map fun v => v.category).sum ≤ 8) (d : decode cc pc = .ok (.invokevirtual index, 3)) (hc : cells ≤ R.cells ∧ slots ≤ R.slots) (kk : ∀ (H1 : Heap) (locs1 : List Loc), lj_W D cI cZ s hX aX hM aM σ' μ H1 locs1 → W p l e R s m args below meth c H1 locs1 cells slots Q (F0 m (pc + 3) ls rest)) : W p l e R s m args below meth c H locs cells slots Q (F0 m pc ls st0) :=
  ox_cv0 C hMet cw hW.1 hW.2.2.2.2 (fun q h => (hW.2.2.1 q h).1) hst hn hsz hroom d hc (fun H1 locs1 h1 h2 h3 => kk H1 locs1 ⟨h1, om_kept hW.2.1 (fun q hq hA => h3 q hq (fun z => (hW.2.2.1 q z).2 hA)), hW.2.2.1, hW.2.2.2.1, h2⟩)
theorem lj_mi {y : MethodName} {bytes : ByteArray} {maxL n index : Nat} {rt : FieldType} {rm : Room} {As : List Value} {μ' : os_St} {own : String} {st0 : List Value} {r : Int32} (C : os_cx own p s m args c cc nL D cI cZ) (hW : lj_W D cI cZ s hX aX hM aM σ μ H locs) (hMet : os_MI l y bytes maxL rt rm (om_A hM aM) (.ref hM :: As) (om_W D cI cZ hM aM μ) (om_W D cI cZ hM aM μ') r) (cw : CallW R s args own RX1 index y bytes maxL (some rt) (ws_ y bytes maxL (some rt)) rm 0 0 n) (hst : st0 = As.reverse ++ .ref hM :: rest) (hn : As.length = n) (hsz : ls.size = nL) (hroom : (rest.map fun v => v.category).sum ≤ 8) (d : decode cc pc = .ok (.invokevirtual index, 3)) (hc : cells ≤ R.cells ∧ slots ≤ R.slots) (kk : ∀ (H1 : Heap) (locs1 : List Loc), lj_W D cI cZ s hX aX hM aM σ μ' H1 locs1 → W p l e R s m args below meth c H1 locs1 cells slots Q (F0 m (pc + 3) ls (.int r :: rest))) : W p l e R s m args below meth c H locs cells slots Q (F0 m pc ls st0) :=
  om_ci0 C hMet cw hW.2.1 hW.2.2.2.2 hW.2.2.2.1 hst hn hsz hroom d hc (fun H1 locs1 h1 h2 h3 => kk H1 locs1 ⟨ox_kept hW.1 (fun q hq hA => h3 q hq (hW.2.2.1 q hA).2), h1, hW.2.2.1, hW.2.2.2.1, h2⟩)
theorem lj_mv {y : MethodName} {bytes : ByteArray} {maxL n index : Nat} {rm : Room} {As : List Value} {μ' : os_St} {own : String} {st0 : List Value} (C : os_cx own p s m args c cc nL D cI cZ) (hW : lj_W D cI cZ s hX aX hM aM σ μ H locs) (hMet : os_MV l y bytes maxL rm (om_A hM aM) (.ref hM :: As) (om_W D cI cZ hM aM μ) (om_W D cI cZ hM aM μ')) (cw : CallW R s args own RX1 index y bytes maxL none (ws_ y bytes maxL none) rm 0 0 n) (hst : st0 = As.reverse ++ .ref hM :: rest) (hn : As.length = n) (hsz : ls.size = nL) (hroom : (rest.map fun v => v.category).sum ≤ 8) (d : decode cc pc = .ok (.invokevirtual index, 3)) (hc : cells ≤ R.cells ∧ slots ≤ R.slots) (kk : ∀ (H1 : Heap) (locs1 : List Loc), lj_W D cI cZ s hX aX hM aM σ μ' H1 locs1 → W p l e R s m args below meth c H1 locs1 cells slots Q (F0 m (pc + 3) ls rest)) : W p l e R s m args below meth c H locs cells slots Q (F0 m pc ls st0) :=
  om_cv0 C hMet cw hW.2.1 hW.2.2.2.2 hW.2.2.2.1 hst hn hsz hroom d hc (fun H1 locs1 h1 h2 h3 => kk H1 locs1 ⟨ox_kept hW.1 (fun q hq hA => h3 q hq (hW.2.2.1 q hA).2), h1, hW.2.2.1, hW.2.2.2.1, h2⟩)
end LJ
end
section
/-! THE LAW's SWITCH: its ten cases (printed by gen/law.py) -/
set_option maxHeartbeats 1000000 in
theorem lc_rule {p : Program} {l : Launch} {e : Env} {s : State} {m : MethodId} {below : List Frame} {meth : Method} {c : Code} {D : va_G} {cI cZ : ClassId} {hX hM b L : Nat} {aX aM : Nat → Nat} {xs : Nat → Int32} {i : Nat} (C : os_cx R_law p s m #[Value.ref b] c cL_law 4 D cI cZ) (hXs : va_X b L xs s s.heap) (hbl : b < s.heap.size) (hin : ∀ k : Nat, k < 5 → vp_in (nI (i + k)) L) (nxt : lj_at p l e s m below meth c D cI cZ hX hM b aX aM 356 i) : lj_at p l e s m below meth c D cI cZ hX hM b aX aM 88 i := by
  intro σ μ hJ H locs hW ls hl
  have hb := j_bd hJ
  have hi1 : vp_in (nI i + 1) L := by rw [show nI i + 1 = nI (i + 1) from nI_add i 1]; exact hin 1 (by omega)
  have hi2 : vp_in (nI i + 2) L := by rw [show nI i + 2 = nI (i + 2) from nI_add i 2]; exact hin 2 (by omega)
  have hi3 : vp_in (nI i + 3) L := by rw [show nI i + 3 = nI (i + 3) from nI_add i 3]; exact hin 3 (by omega)
  have hi4 : vp_in (nI i + 4) L := by rw [show nI i + 4 = nI (i + 4) from nI_add i 4]; exact hin 4 (by omega)
  refine lv_aload_n C.1 C.2.1 dL_law_88 rfl (lv_at hl 1 rfl) ?_
  refine lj_arg (k := 1) C.1 C.2.1 hXs hbl hW.2.2.2.2 (lv_at hl 0 rfl) (lv_at hl 3 rfl) hi1 dL_law_89 dL_law_90 dL_law_91 (by decide) dL_law_92 dL_law_93 ?_
  refine lj_arg (k := 2) C.1 C.2.1 hXs hbl hW.2.2.2.2 (lv_at hl 0 rfl) (lv_at hl 3 rfl) hi2 dL_law_94 dL_law_95 dL_law_96 (by decide) dL_law_97 dL_law_98 ?_
  refine lj_arg (k := 3) C.1 C.2.1 hXs hbl hW.2.2.2.2 (lv_at hl 0 rfl) (lv_at hl 3 rfl) hi3 dL_law_99 dL_law_100 dL_law_101 (by decide) dL_law_102 dL_law_103 ?_
  refine lj_arg (k := 4) C.1 C.2.1 hXs hbl hW.2.2.2.2 (lv_at hl 0 rfl) (lv_at hl 3 rfl) hi4 dL_law_104 dL_law_105 dL_law_106 (by decide) dL_law_107 dL_law_108 ?_
  refine lj_xi (As := [.int (xs (nI i + 1).toNatClampNeg), .int (xs (nI i + 2).toNatClampNeg), .int (xs (nI i + 3).toNatClampNeg), .int (xs (nI i + 4).toNatClampNeg)]) (rest := []) C hW (mx_rule l D cI cZ hX aX σ (xs (nI i + 1).toNatClampNeg) (xs (nI i + 2).toNatClampNeg) (xs (nI i + 3).toNatClampNeg) (xs (nI i + 4).toNatClampNeg) ) (cwV 4 C.2.2.2.2.1 (lw_V q97 q98 q99 q23 q100) rfl rfl rfl (by decide +kernel) ⟨Nat.le_of_ble_eq_true rfl, Nat.le_of_ble_eq_true rfl⟩) rfl rfl hl.1 (Nat.le_of_ble_eq_true rfl) dL_law_109 ⟨Nat.le_of_ble_eq_true rfl, Nat.le_of_ble_eq_true rfl⟩ (fun H locs hW => ?_)
  refine lv_aload_n C.1 C.2.1 dL_law_112 rfl (lv_at hl 2 rfl) ?_
  refine lj_arg (k := 1) C.1 C.2.1 hXs hbl hW.2.2.2.2 (lv_at hl 0 rfl) (lv_at hl 3 rfl) hi1 dL_law_113 dL_law_114 dL_law_115 (by decide) dL_law_116 dL_law_117 ?_
  refine lj_arg (k := 2) C.1 C.2.1 hXs hbl hW.2.2.2.2 (lv_at hl 0 rfl) (lv_at hl 3 rfl) hi2 dL_law_118 dL_law_119 dL_law_120 (by decide) dL_law_121 dL_law_122 ?_
  refine lj_arg (k := 3) C.1 C.2.1 hXs hbl hW.2.2.2.2 (lv_at hl 0 rfl) (lv_at hl 3 rfl) hi3 dL_law_123 dL_law_124 dL_law_125 (by decide) dL_law_126 dL_law_127 ?_
  refine lj_arg (k := 4) C.1 C.2.1 hXs hbl hW.2.2.2.2 (lv_at hl 0 rfl) (lv_at hl 3 rfl) hi4 dL_law_128 dL_law_129 dL_law_130 (by decide) dL_law_131 dL_law_132 ?_
  refine lj_mi (As := [.int (xs (nI i + 1).toNatClampNeg), .int (xs (nI i + 2).toNatClampNeg), .int (xs (nI i + 3).toNatClampNeg), .int (xs (nI i + 4).toNatClampNeg)]) (rest := [.int (os_rule σ (xs (nI i + 1).toNatClampNeg) (xs (nI i + 2).toNatClampNeg) (xs (nI i + 3).toNatClampNeg) (xs (nI i + 4).toNatClampNeg)).1]) C hW (mm_rule l D cI cZ hM aM μ (xs (nI i + 1).toNatClampNeg) (xs (nI i + 2).toNatClampNeg) (xs (nI i + 3).toNatClampNeg) (xs (nI i + 4).toNatClampNeg) ) (cwV 4 C.2.2.2.2.1 (lw_V q242 q243 q244 q24 q245) rfl rfl rfl (by decide +kernel) ⟨Nat.le_of_ble_eq_true rfl, Nat.le_of_ble_eq_true rfl⟩) rfl rfl hl.1 (Nat.le_of_ble_eq_true rfl) dL_law_133 ⟨Nat.le_of_ble_eq_true rfl, Nat.le_of_ble_eq_true rfl⟩ (fun H locs hW => ?_)
  refine lv_icmp_eq (tgt := 356) C.1 C.2.1 dL_law_136 (by decide) (fun ce => ?_) (fun ce => ?_)
  · exact nxt _ _ (j_rule (xs (nI i + 1).toNatClampNeg) (xs (nI i + 2).toNatClampNeg) (xs (nI i + 3).toNatClampNeg) (xs (nI i + 4).toNatClampNeg) hJ).2 H locs hW ls hl
  · exact absurd (j_rule (xs (nI i + 1).toNatClampNeg) (xs (nI i + 2).toNatClampNeg) (xs (nI i + 3).toNatClampNeg) (xs (nI i + 4).toNatClampNeg) hJ).1 ce
set_option maxHeartbeats 1000000 in
theorem lc_inject {p : Program} {l : Launch} {e : Env} {s : State} {m : MethodId} {below : List Frame} {meth : Method} {c : Code} {D : va_G} {cI cZ : ClassId} {hX hM b L : Nat} {aX aM : Nat → Nat} {xs : Nat → Int32} {i : Nat} (C : os_cx R_law p s m #[Value.ref b] c cL_law 4 D cI cZ) (hXs : va_X b L xs s s.heap) (hbl : b < s.heap.size) (hin : ∀ k : Nat, k < 5 → vp_in (nI (i + k)) L) (nxt : lj_at p l e s m below meth c D cI cZ hX hM b aX aM 356 i) : lj_at p l e s m below meth c D cI cZ hX hM b aX aM 141 i := by
  intro σ μ hJ H locs hW ls hl
  have hb := j_bd hJ
  have hi1 : vp_in (nI i + 1) L := by rw [show nI i + 1 = nI (i + 1) from nI_add i 1]; exact hin 1 (by omega)
  have hi2 : vp_in (nI i + 2) L := by rw [show nI i + 2 = nI (i + 2) from nI_add i 2]; exact hin 2 (by omega)
  have hi3 : vp_in (nI i + 3) L := by rw [show nI i + 3 = nI (i + 3) from nI_add i 3]; exact hin 3 (by omega)
  refine lv_aload_n C.1 C.2.1 dL_law_141 rfl (lv_at hl 1 rfl) ?_
  refine lj_arg (k := 1) C.1 C.2.1 hXs hbl hW.2.2.2.2 (lv_at hl 0 rfl) (lv_at hl 3 rfl) hi1 dL_law_142 dL_law_143 dL_law_144 (by decide) dL_law_145 dL_law_146 ?_
  refine lj_arg (k := 2) C.1 C.2.1 hXs hbl hW.2.2.2.2 (lv_at hl 0 rfl) (lv_at hl 3 rfl) hi2 dL_law_147 dL_law_148 dL_law_149 (by decide) dL_law_150 dL_law_151 ?_
  refine lj_arg (k := 3) C.1 C.2.1 hXs hbl hW.2.2.2.2 (lv_at hl 0 rfl) (lv_at hl 3 rfl) hi3 dL_law_152 dL_law_153 dL_law_154 (by decide) dL_law_155 dL_law_156 ?_
  refine lj_xi (As := [.int (xs (nI i + 1).toNatClampNeg), .int (xs (nI i + 2).toNatClampNeg), .int (xs (nI i + 3).toNatClampNeg)]) (rest := []) C hW (mx_inject l D cI cZ hX aX σ (xs (nI i + 1).toNatClampNeg) (xs (nI i + 2).toNatClampNeg) (xs (nI i + 3).toNatClampNeg) hb.1.1 hb.1.2) (cwV 3 C.2.2.2.2.1 (lw_V q104 q105 q106 q23 q107) rfl rfl rfl (by decide +kernel) ⟨Nat.le_of_ble_eq_true rfl, Nat.le_of_ble_eq_true rfl⟩) rfl rfl hl.1 (Nat.le_of_ble_eq_true rfl) dL_law_157 ⟨Nat.le_of_ble_eq_true rfl, Nat.le_of_ble_eq_true rfl⟩ (fun H locs hW => ?_)
  refine lv_aload_n C.1 C.2.1 dL_law_160 rfl (lv_at hl 2 rfl) ?_
  refine lj_arg (k := 1) C.1 C.2.1 hXs hbl hW.2.2.2.2 (lv_at hl 0 rfl) (lv_at hl 3 rfl) hi1 dL_law_161 dL_law_162 dL_law_163 (by decide) dL_law_164 dL_law_165 ?_
  refine lj_arg (k := 2) C.1 C.2.1 hXs hbl hW.2.2.2.2 (lv_at hl 0 rfl) (lv_at hl 3 rfl) hi2 dL_law_166 dL_law_167 dL_law_168 (by decide) dL_law_169 dL_law_170 ?_
  refine lj_arg (k := 3) C.1 C.2.1 hXs hbl hW.2.2.2.2 (lv_at hl 0 rfl) (lv_at hl 3 rfl) hi3 dL_law_171 dL_law_172 dL_law_173 (by decide) dL_law_174 dL_law_175 ?_
  refine lj_mi (As := [.int (xs (nI i + 1).toNatClampNeg), .int (xs (nI i + 2).toNatClampNeg), .int (xs (nI i + 3).toNatClampNeg)]) (rest := [.int (os_inject σ (xs (nI i + 1).toNatClampNeg) (xs (nI i + 2).toNatClampNeg) (xs (nI i + 3).toNatClampNeg)).1]) C hW (mm_inject l D cI cZ hM aM μ (xs (nI i + 1).toNatClampNeg) (xs (nI i + 2).toNatClampNeg) (xs (nI i + 3).toNatClampNeg) hb.2.2.2) (cwV 3 C.2.2.2.2.1 (lw_V q250 q251 q252 q24 q253) rfl rfl rfl (by decide +kernel) ⟨Nat.le_of_ble_eq_true rfl, Nat.le_of_ble_eq_true rfl⟩) rfl rfl hl.1 (Nat.le_of_ble_eq_true rfl) dL_law_176 ⟨Nat.le_of_ble_eq_true rfl, Nat.le_of_ble_eq_true rfl⟩ (fun H locs hW => ?_)
  refine lv_icmp_eq (tgt := 356) C.1 C.2.1 dL_law_179 (by decide) (fun ce => ?_) (fun ce => ?_)
  · exact nxt _ _ (j_inject (xs (nI i + 1).toNatClampNeg) (xs (nI i + 2).toNatClampNeg) (xs (nI i + 3).toNatClampNeg) hJ).2 H locs hW ls hl
  · exact absurd (j_inject (xs (nI i + 1).toNatClampNeg) (xs (nI i + 2).toNatClampNeg) (xs (nI i + 3).toNatClampNeg) hJ).1 ce
set_option maxHeartbeats 1000000 in
theorem lc_work {p : Program} {l : Launch} {e : Env} {s : State} {m : MethodId} {below : List Frame} {meth : Method} {c : Code} {D : va_G} {cI cZ : ClassId} {hX hM b L : Nat} {aX aM : Nat → Nat} {xs : Nat → Int32} {i : Nat} (C : os_cx R_law p s m #[Value.ref b] c cL_law 4 D cI cZ) (hXs : va_X b L xs s s.heap) (hbl : b < s.heap.size) (hin : ∀ k : Nat, k < 5 → vp_in (nI (i + k)) L) (nxt : lj_at p l e s m below meth c D cI cZ hX hM b aX aM 356 i) : lj_at p l e s m below meth c D cI cZ hX hM b aX aM 184 i := by
  intro σ μ hJ H locs hW ls hl
  have hb := j_bd hJ
  have hi1 : vp_in (nI i + 1) L := by rw [show nI i + 1 = nI (i + 1) from nI_add i 1]; exact hin 1 (by omega)
  have hi2 : vp_in (nI i + 2) L := by rw [show nI i + 2 = nI (i + 2) from nI_add i 2]; exact hin 2 (by omega)
  refine lv_aload_n C.1 C.2.1 dL_law_184 rfl (lv_at hl 1 rfl) ?_
  refine lj_arg (k := 1) C.1 C.2.1 hXs hbl hW.2.2.2.2 (lv_at hl 0 rfl) (lv_at hl 3 rfl) hi1 dL_law_185 dL_law_186 dL_law_187 (by decide) dL_law_188 dL_law_189 ?_
  refine lj_arg (k := 2) C.1 C.2.1 hXs hbl hW.2.2.2.2 (lv_at hl 0 rfl) (lv_at hl 3 rfl) hi2 dL_law_190 dL_law_191 dL_law_192 (by decide) dL_law_193 dL_law_194 ?_
  refine lj_xi (As := [.int (xs (nI i + 1).toNatClampNeg), .int (xs (nI i + 2).toNatClampNeg)]) (rest := []) C hW (mx_work l D cI cZ hX aX σ (xs (nI i + 1).toNatClampNeg) (xs (nI i + 2).toNatClampNeg) hb.1.1 hb.1.2) (cwV 2 C.2.2.2.2.1 (lw_V q136 q137 q138 q23 q139) rfl rfl rfl (by decide +kernel) ⟨Nat.le_of_ble_eq_true rfl, Nat.le_of_ble_eq_true rfl⟩) rfl rfl hl.1 (Nat.le_of_ble_eq_true rfl) dL_law_195 ⟨Nat.le_of_ble_eq_true rfl, Nat.le_of_ble_eq_true rfl⟩ (fun H locs hW => ?_)
  refine lv_aload_n C.1 C.2.1 dL_law_198 rfl (lv_at hl 2 rfl) ?_
  refine lj_arg (k := 1) C.1 C.2.1 hXs hbl hW.2.2.2.2 (lv_at hl 0 rfl) (lv_at hl 3 rfl) hi1 dL_law_199 dL_law_200 dL_law_201 (by decide) dL_law_202 dL_law_203 ?_
  refine lj_arg (k := 2) C.1 C.2.1 hXs hbl hW.2.2.2.2 (lv_at hl 0 rfl) (lv_at hl 3 rfl) hi2 dL_law_204 dL_law_205 dL_law_206 (by decide) dL_law_207 dL_law_208 ?_
  refine lj_mi (As := [.int (xs (nI i + 1).toNatClampNeg), .int (xs (nI i + 2).toNatClampNeg)]) (rest := [.int (os_work σ (xs (nI i + 1).toNatClampNeg) (xs (nI i + 2).toNatClampNeg)).1]) C hW (mm_work l D cI cZ hM aM μ (xs (nI i + 1).toNatClampNeg) (xs (nI i + 2).toNatClampNeg) ) (cwV 2 C.2.2.2.2.1 (lw_V q258 q259 q260 q24 q261) rfl rfl rfl (by decide +kernel) ⟨Nat.le_of_ble_eq_true rfl, Nat.le_of_ble_eq_true rfl⟩) rfl rfl hl.1 (Nat.le_of_ble_eq_true rfl) dL_law_209 ⟨Nat.le_of_ble_eq_true rfl, Nat.le_of_ble_eq_true rfl⟩ (fun H locs hW => ?_)
  refine lv_icmp_eq (tgt := 356) C.1 C.2.1 dL_law_212 (by decide) (fun ce => ?_) (fun ce => ?_)
  · exact nxt _ _ (j_work (xs (nI i + 1).toNatClampNeg) (xs (nI i + 2).toNatClampNeg) hJ).2 H locs hW ls hl
  · exact absurd (j_work (xs (nI i + 1).toNatClampNeg) (xs (nI i + 2).toNatClampNeg) hJ).1 ce
set_option maxHeartbeats 1000000 in
theorem lc_commit {p : Program} {l : Launch} {e : Env} {s : State} {m : MethodId} {below : List Frame} {meth : Method} {c : Code} {D : va_G} {cI cZ : ClassId} {hX hM b L : Nat} {aX aM : Nat → Nat} {xs : Nat → Int32} {i : Nat} (C : os_cx R_law p s m #[Value.ref b] c cL_law 4 D cI cZ) (hXs : va_X b L xs s s.heap) (hbl : b < s.heap.size) (hin : ∀ k : Nat, k < 5 → vp_in (nI (i + k)) L) (nxt : lj_at p l e s m below meth c D cI cZ hX hM b aX aM 356 i) : lj_at p l e s m below meth c D cI cZ hX hM b aX aM 217 i := by
  intro σ μ hJ H locs hW ls hl
  have hb := j_bd hJ
  have hi1 : vp_in (nI i + 1) L := by rw [show nI i + 1 = nI (i + 1) from nI_add i 1]; exact hin 1 (by omega)
  refine lv_aload_n C.1 C.2.1 dL_law_217 rfl (lv_at hl 1 rfl) ?_
  refine lj_arg (k := 1) C.1 C.2.1 hXs hbl hW.2.2.2.2 (lv_at hl 0 rfl) (lv_at hl 3 rfl) hi1 dL_law_218 dL_law_219 dL_law_220 (by decide) dL_law_221 dL_law_222 ?_
  refine lj_xi (As := [.int (xs (nI i + 1).toNatClampNeg)]) (rest := []) C hW (mx_commit l D cI cZ hX aX σ (xs (nI i + 1).toNatClampNeg) hb.1.1 hb.1.2) (cwV 1 C.2.2.2.2.1 (lw_V q148 q149 q150 q23 q151) rfl rfl rfl (by decide +kernel) ⟨Nat.le_of_ble_eq_true rfl, Nat.le_of_ble_eq_true rfl⟩) rfl rfl hl.1 (Nat.le_of_ble_eq_true rfl) dL_law_223 ⟨Nat.le_of_ble_eq_true rfl, Nat.le_of_ble_eq_true rfl⟩ (fun H locs hW => ?_)
  refine lv_aload_n C.1 C.2.1 dL_law_226 rfl (lv_at hl 2 rfl) ?_
  refine lj_arg (k := 1) C.1 C.2.1 hXs hbl hW.2.2.2.2 (lv_at hl 0 rfl) (lv_at hl 3 rfl) hi1 dL_law_227 dL_law_228 dL_law_229 (by decide) dL_law_230 dL_law_231 ?_
  refine lj_mi (As := [.int (xs (nI i + 1).toNatClampNeg)]) (rest := [.int (os_commit σ (xs (nI i + 1).toNatClampNeg)).1]) C hW (mm_commit l D cI cZ hM aM μ (xs (nI i + 1).toNatClampNeg) (hb.2.1 _)) (cwV 1 C.2.2.2.2.1 (lw_V q262 q263 q264 q24 q265) rfl rfl rfl (by decide +kernel) ⟨Nat.le_of_ble_eq_true rfl, Nat.le_of_ble_eq_true rfl⟩) rfl rfl hl.1 (Nat.le_of_ble_eq_true rfl) dL_law_232 ⟨Nat.le_of_ble_eq_true rfl, Nat.le_of_ble_eq_true rfl⟩ (fun H locs hW => ?_)
  refine lv_icmp_eq (tgt := 356) C.1 C.2.1 dL_law_235 (by decide) (fun ce => ?_) (fun ce => ?_)
  · exact nxt _ _ (j_commit (xs (nI i + 1).toNatClampNeg) hJ).2 H locs hW ls hl
  · exact absurd (j_commit (xs (nI i + 1).toNatClampNeg) hJ).1 ce
set_option maxHeartbeats 1000000 in
theorem lc_clear {p : Program} {l : Launch} {e : Env} {s : State} {m : MethodId} {below : List Frame} {meth : Method} {c : Code} {D : va_G} {cI cZ : ClassId} {hX hM b L : Nat} {aX aM : Nat → Nat} {xs : Nat → Int32} {i : Nat} (C : os_cx R_law p s m #[Value.ref b] c cL_law 4 D cI cZ) (hXs : va_X b L xs s s.heap) (hbl : b < s.heap.size) (hin : ∀ k : Nat, k < 5 → vp_in (nI (i + k)) L) (nxt : lj_at p l e s m below meth c D cI cZ hX hM b aX aM 356 i) : lj_at p l e s m below meth c D cI cZ hX hM b aX aM 240 i := by
  intro σ μ hJ H locs hW ls hl
  have hb := j_bd hJ
  refine lv_aload_n C.1 C.2.1 dL_law_240 rfl (lv_at hl 1 rfl) ?_
  refine lj_xv (As := []) (rest := []) C hW (mx_clear l D cI cZ hX aX σ  ) (cwV 0 C.2.2.2.2.1 (lw_V q168 q34 q35 q23 q36) rfl rfl rfl (by decide +kernel) ⟨Nat.le_of_ble_eq_true rfl, Nat.le_of_ble_eq_true rfl⟩) rfl rfl hl.1 (Nat.le_of_ble_eq_true rfl) dL_law_241 ⟨Nat.le_of_ble_eq_true rfl, Nat.le_of_ble_eq_true rfl⟩ (fun H locs hW => ?_)
  refine lv_aload_n C.1 C.2.1 dL_law_244 rfl (lv_at hl 2 rfl) ?_
  refine lj_mv (As := []) (rest := []) C hW (mm_clear l D cI cZ hM aM μ  ) (cwV 0 C.2.2.2.2.1 (lw_V q286 q287 q288 q24 q289) rfl rfl rfl (by decide +kernel) ⟨Nat.le_of_ble_eq_true rfl, Nat.le_of_ble_eq_true rfl⟩) rfl rfl hl.1 (Nat.le_of_ble_eq_true rfl) dL_law_245 ⟨Nat.le_of_ble_eq_true rfl, Nat.le_of_ble_eq_true rfl⟩ (fun H locs hW => ?_)
  refine lv_goto (tgt := 356) C.1 C.2.1 dL_law_248 (by decide) ?_
  exact nxt _ _ (j_clear hJ) H locs hW ls hl
set_option maxHeartbeats 1000000 in
theorem lc_state {p : Program} {l : Launch} {e : Env} {s : State} {m : MethodId} {below : List Frame} {meth : Method} {c : Code} {D : va_G} {cI cZ : ClassId} {hX hM b L : Nat} {aX aM : Nat → Nat} {xs : Nat → Int32} {i : Nat} (C : os_cx R_law p s m #[Value.ref b] c cL_law 4 D cI cZ) (hXs : va_X b L xs s s.heap) (hbl : b < s.heap.size) (hin : ∀ k : Nat, k < 5 → vp_in (nI (i + k)) L) (nxt : lj_at p l e s m below meth c D cI cZ hX hM b aX aM 356 i) : lj_at p l e s m below meth c D cI cZ hX hM b aX aM 251 i := by
  intro σ μ hJ H locs hW ls hl
  have hb := j_bd hJ
  have hi1 : vp_in (nI i + 1) L := by rw [show nI i + 1 = nI (i + 1) from nI_add i 1]; exact hin 1 (by omega)
  have hi2 : vp_in (nI i + 2) L := by rw [show nI i + 2 = nI (i + 2) from nI_add i 2]; exact hin 2 (by omega)
  refine lv_aload_n C.1 C.2.1 dL_law_251 rfl (lv_at hl 1 rfl) ?_
  refine lj_arg (k := 1) C.1 C.2.1 hXs hbl hW.2.2.2.2 (lv_at hl 0 rfl) (lv_at hl 3 rfl) hi1 dL_law_252 dL_law_253 dL_law_254 (by decide) dL_law_255 dL_law_256 ?_
  refine lj_arg (k := 2) C.1 C.2.1 hXs hbl hW.2.2.2.2 (lv_at hl 0 rfl) (lv_at hl 3 rfl) hi2 dL_law_257 dL_law_258 dL_law_259 (by decide) dL_law_260 dL_law_261 ?_
  refine lj_xi (As := [.int (xs (nI i + 1).toNatClampNeg), .int (xs (nI i + 2).toNatClampNeg)]) (rest := []) C hW (mx_state l D cI cZ hX aX σ (xs (nI i + 1).toNatClampNeg) (xs (nI i + 2).toNatClampNeg) hb.1.1 hb.1.2) (cwV 2 C.2.2.2.2.1 (lw_V q169 q170 q171 q23 q172) rfl rfl rfl (by decide +kernel) ⟨Nat.le_of_ble_eq_true rfl, Nat.le_of_ble_eq_true rfl⟩) rfl rfl hl.1 (Nat.le_of_ble_eq_true rfl) dL_law_262 ⟨Nat.le_of_ble_eq_true rfl, Nat.le_of_ble_eq_true rfl⟩ (fun H locs hW => ?_)
  refine lv_aload_n C.1 C.2.1 dL_law_265 rfl (lv_at hl 2 rfl) ?_
  refine lj_arg (k := 1) C.1 C.2.1 hXs hbl hW.2.2.2.2 (lv_at hl 0 rfl) (lv_at hl 3 rfl) hi1 dL_law_266 dL_law_267 dL_law_268 (by decide) dL_law_269 dL_law_270 ?_
  refine lj_arg (k := 2) C.1 C.2.1 hXs hbl hW.2.2.2.2 (lv_at hl 0 rfl) (lv_at hl 3 rfl) hi2 dL_law_271 dL_law_272 dL_law_273 (by decide) dL_law_274 dL_law_275 ?_
  refine lj_mi (As := [.int (xs (nI i + 1).toNatClampNeg), .int (xs (nI i + 2).toNatClampNeg)]) (rest := [.int (os_state σ (xs (nI i + 1).toNatClampNeg) (xs (nI i + 2).toNatClampNeg)).1]) C hW (mm_state l D cI cZ hM aM μ (xs (nI i + 1).toNatClampNeg) (xs (nI i + 2).toNatClampNeg) hb.2.2.1) (cwV 2 C.2.2.2.2.1 (lw_V q290 q291 q292 q24 q293) rfl rfl rfl (by decide +kernel) ⟨Nat.le_of_ble_eq_true rfl, Nat.le_of_ble_eq_true rfl⟩) rfl rfl hl.1 (Nat.le_of_ble_eq_true rfl) dL_law_276 ⟨Nat.le_of_ble_eq_true rfl, Nat.le_of_ble_eq_true rfl⟩ (fun H locs hW => ?_)
  refine lv_icmp_eq (tgt := 356) C.1 C.2.1 dL_law_279 (by decide) (fun ce => ?_) (fun ce => ?_)
  · exact nxt _ _ (j_state (xs (nI i + 1).toNatClampNeg) (xs (nI i + 2).toNatClampNeg) hJ).2 H locs hW ls hl
  · exact absurd (j_state (xs (nI i + 1).toNatClampNeg) (xs (nI i + 2).toNatClampNeg) hJ).1 ce
set_option maxHeartbeats 1000000 in
theorem lc_handled {p : Program} {l : Launch} {e : Env} {s : State} {m : MethodId} {below : List Frame} {meth : Method} {c : Code} {D : va_G} {cI cZ : ClassId} {hX hM b L : Nat} {aX aM : Nat → Nat} {xs : Nat → Int32} {i : Nat} (C : os_cx R_law p s m #[Value.ref b] c cL_law 4 D cI cZ) (hXs : va_X b L xs s s.heap) (hbl : b < s.heap.size) (hin : ∀ k : Nat, k < 5 → vp_in (nI (i + k)) L) (nxt : lj_at p l e s m below meth c D cI cZ hX hM b aX aM 356 i) : lj_at p l e s m below meth c D cI cZ hX hM b aX aM 284 i := by
  intro σ μ hJ H locs hW ls hl
  have hb := j_bd hJ
  have hi1 : vp_in (nI i + 1) L := by rw [show nI i + 1 = nI (i + 1) from nI_add i 1]; exact hin 1 (by omega)
  have hi2 : vp_in (nI i + 2) L := by rw [show nI i + 2 = nI (i + 2) from nI_add i 2]; exact hin 2 (by omega)
  refine lv_aload_n C.1 C.2.1 dL_law_284 rfl (lv_at hl 1 rfl) ?_
  refine lj_arg (k := 1) C.1 C.2.1 hXs hbl hW.2.2.2.2 (lv_at hl 0 rfl) (lv_at hl 3 rfl) hi1 dL_law_285 dL_law_286 dL_law_287 (by decide) dL_law_288 dL_law_289 ?_
  refine lj_arg (k := 2) C.1 C.2.1 hXs hbl hW.2.2.2.2 (lv_at hl 0 rfl) (lv_at hl 3 rfl) hi2 dL_law_290 dL_law_291 dL_law_292 (by decide) dL_law_293 dL_law_294 ?_
  refine lj_xi (As := [.int (xs (nI i + 1).toNatClampNeg), .int (xs (nI i + 2).toNatClampNeg)]) (rest := []) C hW (mx_handled l D cI cZ hX aX σ (xs (nI i + 1).toNatClampNeg) (xs (nI i + 2).toNatClampNeg) hb.1.1 hb.1.2) (cwV 2 C.2.2.2.2.1 (lw_V q177 q178 q179 q23 q180) rfl rfl rfl (by decide +kernel) ⟨Nat.le_of_ble_eq_true rfl, Nat.le_of_ble_eq_true rfl⟩) rfl rfl hl.1 (Nat.le_of_ble_eq_true rfl) dL_law_295 ⟨Nat.le_of_ble_eq_true rfl, Nat.le_of_ble_eq_true rfl⟩ (fun H locs hW => ?_)
  refine lv_aload_n C.1 C.2.1 dL_law_298 rfl (lv_at hl 2 rfl) ?_
  refine lj_arg (k := 1) C.1 C.2.1 hXs hbl hW.2.2.2.2 (lv_at hl 0 rfl) (lv_at hl 3 rfl) hi1 dL_law_299 dL_law_300 dL_law_301 (by decide) dL_law_302 dL_law_303 ?_
  refine lj_arg (k := 2) C.1 C.2.1 hXs hbl hW.2.2.2.2 (lv_at hl 0 rfl) (lv_at hl 3 rfl) hi2 dL_law_304 dL_law_305 dL_law_306 (by decide) dL_law_307 dL_law_308 ?_
  refine lj_mi (As := [.int (xs (nI i + 1).toNatClampNeg), .int (xs (nI i + 2).toNatClampNeg)]) (rest := [.int (os_handled σ (xs (nI i + 1).toNatClampNeg) (xs (nI i + 2).toNatClampNeg)).1]) C hW (mm_handled l D cI cZ hM aM μ (xs (nI i + 1).toNatClampNeg) (xs (nI i + 2).toNatClampNeg) hb.2.2.1) (cwV 2 C.2.2.2.2.1 (lw_V q298 q299 q300 q24 q301) rfl rfl rfl (by decide +kernel) ⟨Nat.le_of_ble_eq_true rfl, Nat.le_of_ble_eq_true rfl⟩) rfl rfl hl.1 (Nat.le_of_ble_eq_true rfl) dL_law_309 ⟨Nat.le_of_ble_eq_true rfl, Nat.le_of_ble_eq_true rfl⟩ (fun H locs hW => ?_)
  refine lv_icmp_eq (tgt := 356) C.1 C.2.1 dL_law_312 (by decide) (fun ce => ?_) (fun ce => ?_)
  · exact nxt _ _ (j_handled (xs (nI i + 1).toNatClampNeg) (xs (nI i + 2).toNatClampNeg) hJ).2 H locs hW ls hl
  · exact absurd (j_handled (xs (nI i + 1).toNatClampNeg) (xs (nI i + 2).toNatClampNeg) hJ).1 ce
set_option maxHeartbeats 1000000 in
theorem lc_lastTime {p : Program} {l : Launch} {e : Env} {s : State} {m : MethodId} {below : List Frame} {meth : Method} {c : Code} {D : va_G} {cI cZ : ClassId} {hX hM b L : Nat} {aX aM : Nat → Nat} {xs : Nat → Int32} {i : Nat} (C : os_cx R_law p s m #[Value.ref b] c cL_law 4 D cI cZ) (hXs : va_X b L xs s s.heap) (hbl : b < s.heap.size) (hin : ∀ k : Nat, k < 5 → vp_in (nI (i + k)) L) (nxt : lj_at p l e s m below meth c D cI cZ hX hM b aX aM 356 i) : lj_at p l e s m below meth c D cI cZ hX hM b aX aM 317 i := by
  intro σ μ hJ H locs hW ls hl
  have hb := j_bd hJ
  refine lv_aload_n C.1 C.2.1 dL_law_317 rfl (lv_at hl 1 rfl) ?_
  refine lj_xi (As := []) (rest := []) C hW (mx_lastTime l D cI cZ hX aX σ  hb.1.1 hb.1.2) (cwV 0 C.2.2.2.2.1 (lw_V q181 q182 q183 q23 q184) rfl rfl rfl (by decide +kernel) ⟨Nat.le_of_ble_eq_true rfl, Nat.le_of_ble_eq_true rfl⟩) rfl rfl hl.1 (Nat.le_of_ble_eq_true rfl) dL_law_318 ⟨Nat.le_of_ble_eq_true rfl, Nat.le_of_ble_eq_true rfl⟩ (fun H locs hW => ?_)
  refine lv_aload_n C.1 C.2.1 dL_law_321 rfl (lv_at hl 2 rfl) ?_
  refine lj_mi (As := []) (rest := [.int (os_lastTime σ).1]) C hW (mm_lastTime l D cI cZ hM aM μ  hb.2.2.1) (cwV 0 C.2.2.2.2.1 (lw_V q302 q303 q304 q24 q305) rfl rfl rfl (by decide +kernel) ⟨Nat.le_of_ble_eq_true rfl, Nat.le_of_ble_eq_true rfl⟩) rfl rfl hl.1 (Nat.le_of_ble_eq_true rfl) dL_law_322 ⟨Nat.le_of_ble_eq_true rfl, Nat.le_of_ble_eq_true rfl⟩ (fun H locs hW => ?_)
  refine lv_icmp_eq (tgt := 356) C.1 C.2.1 dL_law_325 (by decide) (fun ce => ?_) (fun ce => ?_)
  · exact nxt _ _ (j_lastTime  hJ).2 H locs hW ls hl
  · exact absurd (j_lastTime  hJ).1 ce
set_option maxHeartbeats 1000000 in
theorem lc_events {p : Program} {l : Launch} {e : Env} {s : State} {m : MethodId} {below : List Frame} {meth : Method} {c : Code} {D : va_G} {cI cZ : ClassId} {hX hM b L : Nat} {aX aM : Nat → Nat} {xs : Nat → Int32} {i : Nat} (C : os_cx R_law p s m #[Value.ref b] c cL_law 4 D cI cZ) (hXs : va_X b L xs s s.heap) (hbl : b < s.heap.size) (hin : ∀ k : Nat, k < 5 → vp_in (nI (i + k)) L) (nxt : lj_at p l e s m below meth c D cI cZ hX hM b aX aM 356 i) : lj_at p l e s m below meth c D cI cZ hX hM b aX aM 330 i := by
  intro σ μ hJ H locs hW ls hl
  have hb := j_bd hJ
  refine lv_aload_n C.1 C.2.1 dL_law_330 rfl (lv_at hl 1 rfl) ?_
  refine lj_xi (As := []) (rest := []) C hW (mx_events l D cI cZ hX aX σ  hb.1.1 hb.1.2) (cwV 0 C.2.2.2.2.1 (lw_V q185 q186 q187 q23 q188) rfl rfl rfl (by decide +kernel) ⟨Nat.le_of_ble_eq_true rfl, Nat.le_of_ble_eq_true rfl⟩) rfl rfl hl.1 (Nat.le_of_ble_eq_true rfl) dL_law_331 ⟨Nat.le_of_ble_eq_true rfl, Nat.le_of_ble_eq_true rfl⟩ (fun H locs hW => ?_)
  refine lv_aload_n C.1 C.2.1 dL_law_334 rfl (lv_at hl 2 rfl) ?_
  refine lj_mi (As := []) (rest := [.int (os_events σ).1]) C hW (mm_events l D cI cZ hM aM μ  hb.2.2.1) (cwV 0 C.2.2.2.2.1 (lw_V q306 q307 q308 q24 q309) rfl rfl rfl (by decide +kernel) ⟨Nat.le_of_ble_eq_true rfl, Nat.le_of_ble_eq_true rfl⟩) rfl rfl hl.1 (Nat.le_of_ble_eq_true rfl) dL_law_335 ⟨Nat.le_of_ble_eq_true rfl, Nat.le_of_ble_eq_true rfl⟩ (fun H locs hW => ?_)
  refine lv_icmp_eq (tgt := 356) C.1 C.2.1 dL_law_338 (by decide) (fun ce => ?_) (fun ce => ?_)
  · exact nxt _ _ (j_events  hJ).2 H locs hW ls hl
  · exact absurd (j_events  hJ).1 ce
set_option maxHeartbeats 1000000 in
theorem lc_horizon {p : Program} {l : Launch} {e : Env} {s : State} {m : MethodId} {below : List Frame} {meth : Method} {c : Code} {D : va_G} {cI cZ : ClassId} {hX hM b L : Nat} {aX aM : Nat → Nat} {xs : Nat → Int32} {i : Nat} (C : os_cx R_law p s m #[Value.ref b] c cL_law 4 D cI cZ) (hXs : va_X b L xs s s.heap) (hbl : b < s.heap.size) (hin : ∀ k : Nat, k < 5 → vp_in (nI (i + k)) L) (nxt : lj_at p l e s m below meth c D cI cZ hX hM b aX aM 356 i) : lj_at p l e s m below meth c D cI cZ hX hM b aX aM 343 i := by
  intro σ μ hJ H locs hW ls hl
  have hb := j_bd hJ
  refine lv_aload_n C.1 C.2.1 dL_law_343 rfl (lv_at hl 1 rfl) ?_
  refine lj_xi (As := []) (rest := []) C hW (mx_horizon l D cI cZ hX aX σ  ) (cwV 0 C.2.2.2.2.1 (lw_V q189 q190 q191 q23 q192) rfl rfl rfl (by decide +kernel) ⟨Nat.le_of_ble_eq_true rfl, Nat.le_of_ble_eq_true rfl⟩) rfl rfl hl.1 (Nat.le_of_ble_eq_true rfl) dL_law_344 ⟨Nat.le_of_ble_eq_true rfl, Nat.le_of_ble_eq_true rfl⟩ (fun H locs hW => ?_)
  refine lv_aload_n C.1 C.2.1 dL_law_347 rfl (lv_at hl 2 rfl) ?_
  refine lj_mi (As := []) (rest := [.int (σ 4 0)]) C hW (mm_horizon l D cI cZ hM aM μ  ) (cwV 0 C.2.2.2.2.1 (lw_V q310 q311 q312 q24 q313) rfl rfl rfl (by decide +kernel) ⟨Nat.le_of_ble_eq_true rfl, Nat.le_of_ble_eq_true rfl⟩) rfl rfl hl.1 (Nat.le_of_ble_eq_true rfl) dL_law_348 ⟨Nat.le_of_ble_eq_true rfl, Nat.le_of_ble_eq_true rfl⟩ (fun H locs hW => ?_)
  refine lv_icmp_eq (tgt := 356) C.1 C.2.1 dL_law_351 (by decide) (fun ce => ?_) (fun ce => ?_)
  · exact nxt _ _ hJ H locs hW ls hl
  · exact absurd (j_horizon hJ) ce
end
section
theorem lj_sub5 : ∀ L : Nat, L ≤ 320 → (Int32.ofNat L - 5).toInt = (L : Int) - 5 := by decide +kernel
set_option maxHeartbeats 1000000 in
theorem law_loop {p : Program} {l : Launch} {e : Env} {s : State} {m : MethodId} {below : List Frame} {meth : Method} {c : Code} {D : va_G} {cI cZ : ClassId} {hX hM b L : Nat} {aX aM : Nat → Nat} {xs : Nat → Int32} (hL : L ≤ 320) (C : os_cx R_law p s m #[Value.ref b] c cL_law 4 D cI cZ) (hr : meth.sig.returnType = ret) (hlocks : meth.locks = false) (hXs : va_X b L xs s s.heap) (hbl : b < s.heap.size) : ∀ (n i : Nat), i ≤ L → L < i + n → lj_at p l e s m below meth c D cI cZ hX hM b aX aM 18 i
  | 0, i, h1, h2 => by omega
  | n + 1, i, h1, h2 => by
    intro σ μ hJ H locs hW ls hl
    refine lv_iload_n C.1 C.2.1 dL_law_18 rfl (lv_at hl 3 rfl) ?_
    refine lv_aload_n C.1 C.2.1 dL_law_19 rfl (lv_at hl 0 rfl) ?_
    refine va_slen C.1 C.2.1 hXs hbl (Nat.not_le.mpr hbl) hW.2.2.2.2 dL_law_20 ?_
    refine lv_iconst (v := 5) C.1 C.2.1 dL_law_21 (by decide) ?_
    refine lv_isub C.1 C.2.1 dL_law_22 ?_
    refine lv_icmp_gt (tgt := 362) C.1 C.2.1 dL_law_23 (by decide) (fun c1 => ?_) (fun c1 => ?_)
    · refine lv_iconst (v := 1) C.1 C.2.1 dL_law_362 (by decide) ?_
      refine va_forget (fun q hq => hW.2.2.2.2.2.2 q hq) ?_
      refine W.widen (k := 600000) (n := 7290000) (Nat.le_of_ble_eq_true rfl) (Nat.le_of_ble_eq_true rfl) ?_
      exact lw_ret C.1 C.2.1 hr hlocks dL_law_363
    · have hi5 : i + 5 ≤ L := by
        rw [Int32.lt_iff_toInt_lt, lj_sub5 L hL, nI_toInt (by omega)] at c1
        omega
      have hin : ∀ k : Nat, k < 5 → vp_in (nI (i + k)) L := fun k hk => vp_in_nI (by omega) (by omega)
      have nxt : lj_at p l e s m below meth c D cI cZ hX hM b aX aM 356 i := by
        intro σ μ hJ H locs hW ls hl
        refine lv_iinc (v := nI (i + 5)) (lv' := [(3, .int (nI (i + 5))), (0, .ref b), (1, .ref hX), (2, .ref hM)]) C.1 C.2.1 dL_law_356 hl (k := 3) rfl (nI_add i 5) (by decide) rfl (fun ls hl => ?_)
        refine lv_goto (tgt := 18) C.1 C.2.1 dL_law_359 (by decide) ?_
        exact law_loop hL C hr hlocks hXs hbl n (i + 5) hi5 (by omega) σ μ hJ H locs hW ls (lv_sub hl [1, 2, 3, 0] rfl)
      refine lv_aload_n C.1 C.2.1 dL_law_26 rfl (lv_at hl 0 rfl) ?_
      refine lv_iload_n C.1 C.2.1 dL_law_27 rfl (lv_at hl 3 rfl) ?_
      refine va_sld C.1 C.2.1 hXs hbl (Nat.not_le.mpr hbl) hW.2.2.2.2 (hin 0 (by omega)) dL_law_28 ?_
      refine lv_bipush (v := 15) C.1 C.2.1 dL_law_29 (by decide) ?_
      refine lv_iand C.1 C.2.1 dL_law_31 ?_
      obtain ⟨j, hj, ej⟩ := vp_in_of (pk_andIn (xs (nI i).toNatClampNeg) (m := 15) 4 (by decide) (by decide)) (by decide)
      rw [ej]
      rcases (show j = 0 ∨ j = 1 ∨ j = 2 ∨ j = 3 ∨ j = 4 ∨ j = 5 ∨ j = 6 ∨ j = 7 ∨ j = 8 ∨ j = 9 ∨ 10 ≤ j by omega) with rfl | rfl | rfl | rfl | rfl | rfl | rfl | rfl | rfl | rfl | hj10
      · refine lv_tableIn (off := 56) (tgt := 88) C.1 C.2.1 dL_law_32 (by decide) (by decide) (by decide) (by decide) ?_
        exact lc_rule C hXs hbl hin nxt σ μ hJ H locs hW ls hl
      · refine lv_tableIn (off := 109) (tgt := 141) C.1 C.2.1 dL_law_32 (by decide) (by decide) (by decide) (by decide) ?_
        exact lc_inject C hXs hbl hin nxt σ μ hJ H locs hW ls hl
      · refine lv_tableIn (off := 152) (tgt := 184) C.1 C.2.1 dL_law_32 (by decide) (by decide) (by decide) (by decide) ?_
        exact lc_work C hXs hbl hin nxt σ μ hJ H locs hW ls hl
      · refine lv_tableIn (off := 185) (tgt := 217) C.1 C.2.1 dL_law_32 (by decide) (by decide) (by decide) (by decide) ?_
        exact lc_commit C hXs hbl hin nxt σ μ hJ H locs hW ls hl
      · refine lv_tableIn (off := 208) (tgt := 240) C.1 C.2.1 dL_law_32 (by decide) (by decide) (by decide) (by decide) ?_
        exact lc_clear C hXs hbl hin nxt σ μ hJ H locs hW ls hl
      · refine lv_tableIn (off := 219) (tgt := 251) C.1 C.2.1 dL_law_32 (by decide) (by decide) (by decide) (by decide) ?_
        exact lc_state C hXs hbl hin nxt σ μ hJ H locs hW ls hl
      · refine lv_tableIn (off := 252) (tgt := 284) C.1 C.2.1 dL_law_32 (by decide) (by decide) (by decide) (by decide) ?_
        exact lc_handled C hXs hbl hin nxt σ μ hJ H locs hW ls hl
      · refine lv_tableIn (off := 285) (tgt := 317) C.1 C.2.1 dL_law_32 (by decide) (by decide) (by decide) (by decide) ?_
        exact lc_lastTime C hXs hbl hin nxt σ μ hJ H locs hW ls hl
      · refine lv_tableIn (off := 298) (tgt := 330) C.1 C.2.1 dL_law_32 (by decide) (by decide) (by decide) (by decide) ?_
        exact lc_events C hXs hbl hin nxt σ μ hJ H locs hW ls hl
      · refine lv_tableIn (off := 311) (tgt := 343) C.1 C.2.1 dL_law_32 (by decide) (by decide) (by decide) (by decide) ?_
        exact lc_horizon C hXs hbl hin nxt σ μ hJ H locs hW ls hl
      · refine lv_tableOut (tgt := 356) C.1 C.2.1 dL_law_32 (Or.inr (by rw [nI_toInt (by omega)]; omega)) (by decide) ?_
        exact nxt σ μ hJ H locs hW ls hl
end
section
theorem ox_lst {cI cZ : ClassId} {h : Nat} {ad : Nat → Nat} {σ : os_St} {q : Nat} (hq : ox_A h ad q) : ∃ (i : Nat) (x : Nat × va_E), (ox_w cI cZ h ad σ)[i]? = some x ∧ x.1 = q := by
  have e : (ox_w cI cZ h ad σ).map Prod.fst = ox_L h ad := rfl
  have hq : q ∈ ox_L h ad := hq
  rw [← e] at hq
  obtain ⟨x, hx, hx2⟩ := List.mem_map.mp hq
  obtain ⟨i, hi⟩ := List.getElem?_of_mem hx
  exact ⟨i, x, hi, hx2⟩
theorem lj_arr {s : State} {args : Array Value} {ty : FieldType} (h : (Cond.arrayClass ty).before args s = true) : ∃ cA : ClassId, ArrOfT s cA ty ∧ s.vm.findClass ("[" ++ ty.toString) = some cA := by
  obtain ⟨cA, kA, comp, h1, h2, h3⟩ := Cond.arrayClass_spec h
  exact ⟨cA, fun n z => ⟨fun k h => (by cases h), kA, h2, comp, h3⟩, h1⟩
set_option maxHeartbeats 4000000 in
/-- THE LAW, from its entry -/
theorem whole_start {p : Program} {e : Env} {s : State} {m : MethodId} {below : List Frame} {meth : Method} {c : Code} (l : Launch) {b L : Nat} {xs : Nat → Int32} (hL : L ≤ 320) (C0 : lw_At p s m meth c b L xs) : W p l e room_1 s m #[Value.ref b] below meth c s.heap [] 0 0 (lw_Z below #[Value.ref b] s) (entryFrame m ([Value.ref b] : List Value).toArray 4) := by
  obtain ⟨hx, hb, hr, hml, hown, hts0, hXs, hbl, hlocks, hgv⟩ := id C0
  have hts : ∀ w ∈ lw_all, w.before #[Value.ref b] s = true := fun w h => hts0 w (lw_all_tbl h)
  have hA : ∀ q : Nat, s.heap.size ≤ q → (fun q : Nat => s.heap.size ≤ q) q := fun _ h => h
  obtain ⟨c0, iS0, hKn0⟩ := u_known (C := RX0) (T := TX0) (N := 19) (n := 19) hts in_X0 (hts _ q26)
  obtain ⟨c1, iS1, hKn1⟩ := u_known (C := RX1) (T := TX1) (N := 14) (n := 14) hts in_X1 (hts _ q194)
  obtain ⟨cI, hcI1, hcI2⟩ := lj_arr (hts _ q95)
  obtain ⟨cZ, hcZ1, hcZ2⟩ := lj_arr (hts _ q96)
  obtain ⟨D, hKc⟩ : ∃ D : va_G, ∀ (k : Nat) (q : vw_C), os_cls[k]? = some q → u_Kn s q.1 q.2.1 q.2.2 (D.1 k) (D.2 k) := by
    refine ⟨(fun k => if k = 0 then c0 else c1, fun k => if k = 0 then iS0 else iS1), ?_⟩
    intro k q hq
    match k, hq with
    | 0, hq => cases hq; exact hKn0
    | 1, hq => cases hq; exact hKn1
    | k + 2, hq => simp [os_cls] at hq
  have hK : va_K D os_cls (os_tys cI cZ) s := ⟨hKc, fun k q hq => by
    match k, hq with
    | 0, hq => cases hq; exact ⟨hcI1, hcI2⟩
    | 1, hq => cases hq; exact ⟨hcZ1, hcZ2⟩
    | k + 2, hq => simp [os_tys] at hq⟩
  have C : os_cx R_law p s m #[Value.ref b] c cL_law 4 D cI cZ := ⟨hx, hb, hml, hown, hts, hK⟩
  have hS : va_S (fun q : Nat => s.heap.size ≤ q) s.heap s.heap [] := va_S.rf
  have hP : va_P D os_cls [] s.heap := fun k q h => by simp at h
  have hD : va_D (fun q : Nat => s.heap.size ≤ q) [] := ⟨fun i j p q h => by simp at h, fun k q h => by simp at h⟩
  have hl := lv_entry ([.ref b]) (n := 4) (Nat.le_of_ble_eq_true rfl)
  rw [lg_entry_eq]
  generalize (lg_sl ([.ref b]) ++ List.replicate (4 - (lg_sl ([.ref b])).length) Slot.unset).toArray = ls at hl ⊢
  have hl : lv_has ls 4 [(0, .ref b)] := hl
  refine va_new (ci := 0) (fs := ox_blank) (C := RX0) (T := TX0) (N := 19) hx hb hts in_X0 tyX0 tyX0_ok hown (hts _ q25) (hts _ q26) (hts _ q23) hK hP hD hS hA rfl (fun j hj => by rcases (show j = 0 ∨ j = 1 ∨ j = 2 ∨ j = 3 ∨ j = 4 ∨ j = 5 ∨ j = 6 ∨ j = 7 ∨ j = 8 ∨ j = 9 ∨ j = 10 ∨ j = 11 ∨ j = 12 ∨ j = 13 ∨ j = 14 ∨ j = 15 ∨ j = 16 ∨ j = 17 ∨ j = 18 by omega) with rfl | rfl | rfl | rfl | rfl | rfl | rfl | rfl | rfl | rfl | rfl | rfl | rfl | rfl | rfl | rfl | rfl | rfl | rfl <;> rfl) (Nat.le_of_ble_eq_true rfl) (Nat.le_of_ble_eq_true rfl) dL_law_0 (fun q0 H hP hD hS => ?_)
  have hP : va_P D os_cls [(q0, .inr (0, ox_blank))] H := hP
  have hq0 : s.heap.size ≤ q0 := hD.2 0 _ rfl
  refine W.widen (k := 1) (n := 19) (Nat.le_of_ble_eq_true rfl) (Nat.le_of_ble_eq_true rfl) ?_
  refine lv_dup hx hb dL_law_3 rfl ?_
  have hF0 : ∀ q : Nat, (q = q0 ∨ H.size ≤ q) → s.heap.size ≤ q := fun q h => by
    rcases h with h | h
    · rw [h]; exact hq0
    · exact Nat.le_trans hS.1 h
  refine va_callv (va_runI (As := []) (rest := [.ref q0]) ⟨hx, hb, hml, hown, hts⟩ (mx_init l D cI cZ q0 H.size) (cwI 0 hts (lw_meth q29) rfl rfl rfl (hts _ q23) (hts _ q27) (hts _ q28) rfl (by decide +kernel) ⟨Nat.le_of_ble_eq_true rfl, Nat.le_of_ble_eq_true rfl⟩) ⟨fun a U g mk q => by obtain ⟨z0, z1, zP, zK⟩ := q; exact ⟨z0, z1, zP, va_K.moved (u := U) (U := U.calling g mk a) (Vm.Alike.refl U.vm) zK⟩, fun U hU hW => ⟨rfl, by rw [hU], by rw [hU]; exact hP, va_K.moved hW.alike hK⟩⟩ rfl rfl hl.1 rfl (lv_room (Nat.le_of_ble_eq_true rfl)) dL_law_4 ⟨Nat.le_of_ble_eq_true rfl, Nat.le_of_ble_eq_true rfl⟩) hS (fun q _ h => hF0 q h) hF0 (fun aX t H1 locs1 ht hvm hw hB hz1 hk1 hS => ?_)
  have hOX : ox_P D cI cZ q0 aX os_start H1 := by rw [← ht]; exact hB.1
  have hAX : ∀ q, ox_A q0 aX q → s.heap.size ≤ q := fun q hq => hF0 q (hw q hq)
  refine W.widen (k := 16) (n := 907) (Nat.le_of_ble_eq_true rfl) (Nat.le_of_ble_eq_true rfl) ?_
  refine lv_astore_n (lv' := [(1, .ref q0), (0, .ref b)]) hx hb dL_law_7 rfl hl (by decide) rfl (fun ls hl => ?_)
  clear hP hD hk1 hz1 hw hB
  have hD : va_D (fun q : Nat => s.heap.size ≤ q) (ox_w cI cZ q0 aX os_start) := hOX.2.weaken (fun k q _ h => hAX q.1 h)
  refine va_new (ci := 1) (fs := om_blank) (C := RX1) (T := TX1) (N := 14) hx hb hts in_X1 tyX1 tyX1_ok hown (hts _ q193) (hts _ q194) (hts _ q24) hK hOX.1 hD hS hA rfl (fun j hj => by rcases (show j = 0 ∨ j = 1 ∨ j = 2 ∨ j = 3 ∨ j = 4 ∨ j = 5 ∨ j = 6 ∨ j = 7 ∨ j = 8 ∨ j = 9 ∨ j = 10 ∨ j = 11 ∨ j = 12 ∨ j = 13 by omega) with rfl | rfl | rfl | rfl | rfl | rfl | rfl | rfl | rfl | rfl | rfl | rfl | rfl | rfl <;> rfl) (Nat.le_of_ble_eq_true rfl) (Nat.le_of_ble_eq_true rfl) dL_law_8 (fun q1 H2 hP2 hD2 hS => ?_)
  have hlen : (ox_w cI cZ q0 aX os_start).length = 16 := rfl
  have hat : ∀ (i : Nat) (x : Nat × va_E), (ox_w cI cZ q0 aX os_start)[i]? = some x → i < 16 ∧ (ox_w cI cZ q0 aX os_start ++ [(q1, .inr (1, om_blank))])[i]? = some x := fun i x hi => by
    have h16 : i < 16 := by rw [← hlen]; exact (List.getElem?_eq_some_iff.mp hi).1
    exact ⟨h16, by rw [List.getElem?_append_left (by rw [hlen]; exact h16)]; exact hi⟩
  have hlst : (ox_w cI cZ q0 aX os_start ++ [(q1, .inr (1, om_blank))])[16]? = some (q1, .inr (1, om_blank)) := rfl
  have hPX : va_P D os_cls (ox_w cI cZ q0 aX os_start) H2 := fun k q hk => hP2 k q (hat k q hk).2
  have hPM : va_P D os_cls [(q1, .inr (1, om_blank))] H2 := fun k q hk => by
    have h0 : k < 1 := (List.getElem?_eq_some_iff.mp hk).1
    obtain rfl : k = 0 := by omega
    cases hk
    exact hP2 16 _ hlst
  have hq1 : s.heap.size ≤ q1 := hD2.2 16 _ hlst
  have hne : ∀ q, ox_A q0 aX q → q ≠ q1 ∧ q < H2.size := fun q hq => by
    obtain ⟨i, x, hi, hxq⟩ := ox_lst (cI := cI) (cZ := cZ) (σ := os_start) hq
    refine ⟨fun z => ?_, ?_⟩
    · have := hD2.1 i 16 x _ (hat i x hi).2 hlst (hxq.trans z)
      have := (hat i x hi).1
      omega
    · rw [← hxq]
      exact (hPX i x hi).lt
  clear hP2 hD2
  refine W.widen (k := 17) (n := 921) (Nat.le_of_ble_eq_true rfl) (Nat.le_of_ble_eq_true rfl) ?_
  refine lv_dup hx hb dL_law_11 rfl ?_
  have hF1 : ∀ q : Nat, (q = q1 ∨ H2.size ≤ q) → s.heap.size ≤ q := fun q h => by
    rcases h with h | h
    · rw [h]; exact hq1
    · exact Nat.le_trans hS.1 h
  refine va_callv (va_runI (As := []) (rest := [.ref q1]) ⟨hx, hb, hml, hown, hts⟩ (mm_init l D cI cZ q1 H2.size) (cwI 0 hts (lw_meth q197) rfl rfl rfl (hts _ q24) (hts _ q195) (hts _ q196) rfl (by decide +kernel) ⟨Nat.le_of_ble_eq_true rfl, Nat.le_of_ble_eq_true rfl⟩) ⟨fun a U g mk q => by obtain ⟨z0, z1, zP, zK⟩ := q; exact ⟨z0, z1, zP, va_K.moved (u := U) (U := U.calling g mk a) (Vm.Alike.refl U.vm) zK⟩, fun U hU hW => ⟨rfl, by rw [hU], by rw [hU]; exact hPM, va_K.moved hW.alike hK⟩⟩ rfl rfl hl.1 rfl (lv_room (Nat.le_of_ble_eq_true rfl)) dL_law_12 ⟨Nat.le_of_ble_eq_true rfl, Nat.le_of_ble_eq_true rfl⟩) hS (fun q _ h => hF1 q h) hF1 (fun aM t3 H3 locs3 ht3 hvm3 hw3 hB3 hz3 hk3 hS => ?_)
  have hOM : om_P D cI cZ q1 aM om_start H3 := by rw [← ht3]; exact hB3.1
  have hAM : ∀ q, om_A q1 aM q → s.heap.size ≤ q := fun q hq => hF1 q (hw3 q hq)
  have hap : ∀ q, ox_A q0 aX q → ¬ om_A q1 aM q := fun q hq hq2 => by
    have a1 := hne q hq
    rcases hw3 q hq2 with h | h
    · exact a1.1 h
    · omega
  have hOX3 : ox_P D cI cZ q0 aX os_start H3 := ox_kept ⟨hPX, hOX.2⟩ (fun q hq hA2 => hk3 q hq (fun z => by
    have a1 := hne q hA2
    rcases z with h | h
    · exact a1.1 h
    · omega))
  have hW : lj_W D cI cZ s q0 aX q1 aM os_start om_start H3 locs3 := ⟨hOX3, hOM, fun q hq => ⟨hAX q hq, hap q hq⟩, hAM, hS⟩
  refine W.widen (k := 27) (n := 1421) (Nat.le_of_ble_eq_true rfl) (Nat.le_of_ble_eq_true rfl) ?_
  refine lv_astore_n (lv' := [(2, .ref q1), (1, .ref q0), (0, .ref b)]) hx hb dL_law_15 rfl hl (by decide) rfl (fun ls hl => ?_)
  refine lv_iconst (v := 0) hx hb dL_law_16 (by decide) ?_
  refine lv_istore_n (lv' := [(3, .int 0), (2, .ref q1), (1, .ref q0), (0, .ref b)]) hx hb dL_law_17 rfl hl (by decide) rfl (fun ls hl => ?_)
  exact law_loop hL C hr hlocks hXs hbl (L + 1) 0 (Nat.zero_le L) (by omega) os_start om_start j_start H3 locs3 hW ls (lv_sub hl [3, 2, 1, 0] rfl)
end
section
-- ===== YOUR PART ENDS =====
set_option maxHeartbeats 4000000 in
theorem lw_walk (l : Launch) (b : Addr) (xs : List Int32) : MetFree l x (headSpec (Jvm.Cond.code x code maxLocals ret :: tables_1) room_1) (lw_P b xs) (fun _ _ _ _ _ => True) lw_Q := by
  refine MetFree.of_bodyS (code := code) (maxLocals := maxLocals) (ret := ret) (by decide) ?_ ?_
  · intro args s m h hn
    obtain ⟨meth, c, h1, h2, h3, h4, h5, h6, -, -⟩ := Cond.code_spec hn (atoms_spec (ws := Jvm.Cond.code x code maxLocals ret :: tables_1) h _ List.mem_cons_self)
    exact ⟨meth, c, h1, h2, h3, h4, h5, h6⟩
  · intro p e s m args below meth c s₁ B hml0 hP _
    obtain ⟨rfl, hx, hbd, hgv⟩ := hP
    obtain ⟨scr, harrAt, hlist, hof, hsmall⟩ := hx
    obtain ⟨hcb, hkn, -, -⟩ := State.arrayAt?_spec harrAt
    have hown : s.vm.findClass R_law = some m.cls := findClass_of_methodNamed B.named
    have hts0 : ∀ c ∈ (Jvm.Cond.code x code maxLocals ret :: tables_1), c.before #[Value.ref b] s = true := atoms_spec (ws := Jvm.Cond.code x code maxLocals ret :: tables_1) B.pre
    have hts : ∀ w ∈ lw_tbl, w.before #[Value.ref b] s = true := k2_hts_sels lw_privs (fun w hw => hts0 w (List.mem_cons_of_mem _ hw)) lw_privs_ok
    have hml : c.maxLocals = 4 := B.maxLocals_eq (hts0 _ List.mem_cons_self)
    have X₀ : Stand p l e room_1 s m #[Value.ref b] below meth c s₁ [] 0 0 := Stand.of_body B
    have hh0 : s₁.heap = s.heap := by rw [B.state]; rfl
    have hsz : scr.slots.size = xs.length := by rw [← Array.length_toList, hlist, List.length_map]
    have hval : ∀ j : Nat, j < xs.length → scr.slots[j]? = some (.int (xs.getD j 0)) := fun j hj => by
      rw [← Array.getElem?_toList, hlist]
      simp [hj]
    have hbl : b < s.heap.size := (Array.getElem?_eq_some_iff.mp hcb).1
    have hX : va_X b xs.length (fun j => xs.getD j 0) s s.heap := ⟨scr, hcb, hof, hkn, hsz, hval⟩
    have K : W p l e room_1 s m #[Value.ref b] below meth c s₁.heap [] 0 0 (lw_Z below #[Value.ref b] s) (entryFrame m ([Value.ref b] : List Value).toArray 4) := by
      rw [hh0]
      exact whole_start l hbd ⟨B.exec, B.bytes, B.returns, hml, hown, hts, hX, hbl, B.notSynchronized, hgv⟩
    obtain ⟨t, a1, o, b1, b2, b3⟩ := K s₁ rfl X₀
    exact ⟨t, o, a1, b1, b2, b3⟩
theorem lw_pre_spec {args : Array Value} {s : State} (h : (Jvm.Cond.and given_1 narrow_1).before args s = true) (hr : rest_1_c.before args s = true) : ∃ (b : Addr) (xs : List Int32), lw_P b xs args s := by
  have hs := flat_of_before _ h
  have hq := flat_of_before _ hr
  have hc : (Cond.count 1).before args s = true := hs _ (by decide +kernel)
  have harr : (Cond.arrayOf (.arg 0) .int).before args s = true := hs _ (by decide +kernel)
  have hle : (Cond.le (.length (.arg 0)) (.int 320)).before args s = true := hs _ (by decide +kernel)
  have hlen : (Cond.isInt (.length (.arg 0))).before args s = true := hq _ (by decide +kernel)
  have hall : (Cond.all (.arg 0) (.isInt (.elem (.arg 0) (.index 0)))).before args s = true := hq _ (by decide +kernel)
  obtain ⟨b, xs, hb, hx⟩ := State.ints_of_pre rfl harr hlen hall
  have hsm : xs.length < 2 ^ 31 := hx.choose_spec.2.2.2
  have hev : (Term.length (.arg 0)).eval args s none [] s = some (.int xs.length.toInt32) := hx.length_eval hb
  have hv := Cond.le_ints hev (show (Term.int 320).eval args s none [] s = some (.int 320) from rfl)
  have hd : xs.length.toInt32 ≤ 320 := by
    simpa [Cond.before, Cond.holds, hv] using hle
  have hN : xs.length ≤ 320 := (Int32.ofNat_le_ofNat hsm (by decide)).mp (show Int32.ofNat xs.length ≤ Int32.ofNat 320 from hd)
  exact ⟨b, xs, Cond.one_arg hc (show args[0]? = some (.ref b) from hb), hx, hN, h⟩
theorem lw_comes (l : Launch) : Comes l x (Jvm.Cond.code x code maxLocals ret :: tables_1) room_1 (fun tb e args s => Calls_1 tb e args s ∧ rest_1 tb e args s ∧ Pre_1 tb e args s)
    (fun _ _ args s o t => lw_Q args s o t) := by
  intro p e ha hc hk s m args below hf hfit hheap happ hpre
  obtain ⟨b, xs, hP⟩ := lw_pre_spec hpre.2.2 hpre.2.1
  obtain ⟨k, o, h1, h2, h3, hQ⟩ := lw_walk l b xs p e ha hc hk s m args below hf ((Spec.applies_iff_loose hf).mp happ).1 hP trivial
  exact ⟨k, o, h1, h2, h3, hQ⟩
theorem lw_frame {s t : State} {o : Outcome} {args : Array Value} (h : Framed s o t [] 600000 7290000) :
    Framed s o t (fieldLocs frame_1_writes args s ++ arrayLocs frame_1_arrays args s ++ staticLocs frame_1_statics s) 600000 7290000 := h
theorem lw_limb (L : Cond) (hL : ∀ (args : Array Value) (s t : State), L.after args s (.returned (some (.int 1))) t = true) :
    ArmFor flags0 classFile x code maxLocals ret World_1 tables_1 room_1 Calls_1 rest_1 Pre_1
      (fun tb e a s o t => postC L tb e a s o t ∧ Framed s o t (fieldLocs frame_1_writes a s ++ arrayLocs frame_1_arrays a s ++ staticLocs frame_1_statics s) 600000 7290000) := by
  intro l _ _ _ p e ha hc hk s m args below hf hfit hheap happ hpre
  obtain ⟨k, o, h1, h2, h3, rfl, hF⟩ := lw_comes l p e ha hc hk s m args below hf hfit hheap happ hpre
  exact ⟨k, _, h1, h2, h3, hL args s _, lw_frame hF⟩
theorem i_vc : Claimed_1_1 ∧ Claimed_1_2 := ⟨lw_limb limb_1_1 (fun args s t => by simp [limb_1_1, Cond.after, Cond.holds, Cond.value]), lw_limb limb_1_2 (fun args s t => Cond.after_iff.mpr (by
  first | (rw [show limb_1_2 = Cond.eq .result (.int 1) from rfl, Cond.eq_ints (x := 1) (y := 1) rfl rfl]; simp; done) | (simp [limb_1_2, Cond.value, Term.eval]; done)))⟩
end
