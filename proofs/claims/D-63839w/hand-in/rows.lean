section
-- ===== PART A: goes FIRST, ahead of the names: the tables' words, and 'selects' of the private methods out of them =====
/-- a private method of a class that the tables say can be made, by its rows of tables_1 -/
def lw_okq (q : MethodName × Nat) : Prop := (q.1.cls ≠ "java/lang/invoke/MethodHandle" ∧ q.1.cls ≠ "java/lang/invoke/VarHandle") ∧ Cond.instantiable q.1.cls q.2 ∈ tables_1 ∧ Cond.privateMethod q.1 ∈ tables_1 ∧ Cond.instanceMethod q.1 ∈ tables_1
set_option maxRecDepth 100000
theorem lw_t1 {w : Cond} (h : w ∈ tables_1_1) : w ∈ tables_1 := List.mem_append_left _ h
theorem lw_t2 {w : Cond} (h : w ∈ tables_1_2) : w ∈ tables_1 := List.mem_append_right _ h
theorem lw_p0 : lw_okq (⟨"CoreFinder", "has", "(I)Z"⟩, 7) := ⟨⟨by decide +kernel, by decide +kernel⟩, lw_t1 (List.mem_of_getElem? (i := 4) rfl), lw_t1 (List.mem_of_getElem? (i := 43) rfl), lw_t1 (List.mem_of_getElem? (i := 44) rfl)⟩
theorem lw_p1 : lw_okq (⟨"CoreFinder", "holdsTogether", "(I)Z"⟩, 7) := ⟨⟨by decide +kernel, by decide +kernel⟩, lw_t1 (List.mem_of_getElem? (i := 4) rfl), lw_t1 (List.mem_of_getElem? (i := 59) rfl), lw_t1 (List.mem_of_getElem? (i := 60) rfl)⟩
theorem lw_p2 : lw_okq (⟨"CoreFinder", "solve", "(III)I"⟩, 7) := ⟨⟨by decide +kernel, by decide +kernel⟩, lw_t1 (List.mem_of_getElem? (i := 4) rfl), lw_t1 (List.mem_of_getElem? (i := 63) rfl), lw_t1 (List.mem_of_getElem? (i := 64) rfl)⟩
theorem lw_p3 : lw_okq (⟨"CoreFinder", "broken", "(III)Z"⟩, 7) := ⟨⟨by decide +kernel, by decide +kernel⟩, lw_t1 (List.mem_of_getElem? (i := 4) rfl), lw_t1 (List.mem_of_getElem? (i := 67) rfl), lw_t1 (List.mem_of_getElem? (i := 68) rfl)⟩
theorem lw_p4 : lw_okq (⟨"CoreFinder", "learn", "()V"⟩, 7) := ⟨⟨by decide +kernel, by decide +kernel⟩, lw_t1 (List.mem_of_getElem? (i := 4) rfl), lw_t1 (List.mem_of_getElem? (i := 79) rfl), lw_t1 (List.mem_of_getElem? (i := 80) rfl)⟩
theorem lw_p5 : lw_okq (⟨"CoreFinder", "undecided", "()I"⟩, 7) := ⟨⟨by decide +kernel, by decide +kernel⟩, lw_t1 (List.mem_of_getElem? (i := 4) rfl), lw_t1 (List.mem_of_getElem? (i := 83) rfl), lw_t1 (List.mem_of_getElem? (i := 84) rfl)⟩
theorem lw_p6 : lw_okq (⟨"CoreFinder", "isDecided", "(I)Z"⟩, 7) := ⟨⟨by decide +kernel, by decide +kernel⟩, lw_t1 (List.mem_of_getElem? (i := 4) rfl), lw_t1 (List.mem_of_getElem? (i := 87) rfl), lw_t1 (List.mem_of_getElem? (i := 88) rfl)⟩
theorem lw_p7 : lw_okq (⟨"CoreFinder", "grow", "(I)V"⟩, 7) := ⟨⟨by decide +kernel, by decide +kernel⟩, lw_t1 (List.mem_of_getElem? (i := 4) rfl), lw_t1 (List.mem_of_getElem? (i := 94) rfl), lw_t1 (List.mem_of_getElem? (i := 95) rfl)⟩
theorem lw_p8 : lw_okq (⟨"CoreFinder", "shrink", "(I)V"⟩, 7) := ⟨⟨by decide +kernel, by decide +kernel⟩, lw_t1 (List.mem_of_getElem? (i := 4) rfl), lw_t1 (List.mem_of_getElem? (i := 98) rfl), lw_t1 (List.mem_of_getElem? (i := 99) rfl)⟩
theorem lw_p9 : lw_okq (⟨"CoreFinder", "isCore", "(I)Z"⟩, 7) := ⟨⟨by decide +kernel, by decide +kernel⟩, lw_t1 (List.mem_of_getElem? (i := 4) rfl), lw_t1 (List.mem_of_getElem? (i := 102) rfl), lw_t1 (List.mem_of_getElem? (i := 103) rfl)⟩
theorem lw_p10 : lw_okq (⟨"CoreFinder", "isRepair", "(I)Z"⟩, 7) := ⟨⟨by decide +kernel, by decide +kernel⟩, lw_t1 (List.mem_of_getElem? (i := 4) rfl), lw_t1 (List.mem_of_getElem? (i := 114) rfl), lw_t1 (List.mem_of_getElem? (i := 115) rfl)⟩
theorem lw_p11 : lw_okq (⟨"CoreFinderModel", "letters", "(I)Z"⟩, 4) := ⟨⟨by decide +kernel, by decide +kernel⟩, lw_t1 (List.mem_of_getElem? (i := 145) rfl), lw_t1 (List.mem_of_getElem? (i := 170) rfl), lw_t1 (List.mem_of_getElem? (i := 171) rfl)⟩
theorem lw_p12 : lw_okq (⟨"CoreFinderModel", "allHold", "(II)Z"⟩, 4) := ⟨⟨by decide +kernel, by decide +kernel⟩, lw_t1 (List.mem_of_getElem? (i := 145) rfl), lw_t1 (List.mem_of_getElem? (i := 190) rfl), lw_t1 (List.mem_of_getElem? (i := 191) rfl)⟩
theorem lw_p13 : lw_okq (⟨"CoreFinderModel", "holds", "(III)Z"⟩, 4) := ⟨⟨by decide +kernel, by decide +kernel⟩, lw_t1 (List.mem_of_getElem? (i := 145) rfl), lw_t1 (List.mem_of_getElem? (i := 194) rfl), lw_t1 (List.mem_of_getElem? (i := 195) rfl)⟩
theorem lw_p14 : lw_okq (⟨"CoreFinderModel", "work", "()V"⟩, 4) := ⟨⟨by decide +kernel, by decide +kernel⟩, lw_t1 (List.mem_of_getElem? (i := 145) rfl), lw_t1 (List.mem_of_getElem? (i := 203) rfl), lw_t1 (List.mem_of_getElem? (i := 204) rfl)⟩
theorem lw_p15 : lw_okq (⟨"CoreFinderModel", "isCore", "(I)Z"⟩, 4) := ⟨⟨by decide +kernel, by decide +kernel⟩, lw_t1 (List.mem_of_getElem? (i := 145) rfl), lw_t1 (List.mem_of_getElem? (i := 208) rfl), lw_t1 (List.mem_of_getElem? (i := 209) rfl)⟩
def lw_privs_1 : List (MethodName × Nat) := [(⟨"CoreFinder", "has", "(I)Z"⟩, 7), (⟨"CoreFinder", "holdsTogether", "(I)Z"⟩, 7), (⟨"CoreFinder", "solve", "(III)I"⟩, 7), (⟨"CoreFinder", "broken", "(III)Z"⟩, 7), (⟨"CoreFinder", "learn", "()V"⟩, 7), (⟨"CoreFinder", "undecided", "()I"⟩, 7), (⟨"CoreFinder", "isDecided", "(I)Z"⟩, 7), (⟨"CoreFinder", "grow", "(I)V"⟩, 7), (⟨"CoreFinder", "shrink", "(I)V"⟩, 7), (⟨"CoreFinder", "isCore", "(I)Z"⟩, 7), (⟨"CoreFinder", "isRepair", "(I)Z"⟩, 7), (⟨"CoreFinderModel", "letters", "(I)Z"⟩, 4), (⟨"CoreFinderModel", "allHold", "(II)Z"⟩, 4), (⟨"CoreFinderModel", "holds", "(III)Z"⟩, 4), (⟨"CoreFinderModel", "work", "()V"⟩, 4), (⟨"CoreFinderModel", "isCore", "(I)Z"⟩, 4)]
theorem lw_r1 : ∀ q ∈ lw_privs_1, lw_okq q := List.forall_mem_cons.mpr ⟨lw_p0, List.forall_mem_cons.mpr ⟨lw_p1, List.forall_mem_cons.mpr ⟨lw_p2, List.forall_mem_cons.mpr ⟨lw_p3, List.forall_mem_cons.mpr ⟨lw_p4, List.forall_mem_cons.mpr ⟨lw_p5, List.forall_mem_cons.mpr ⟨lw_p6, List.forall_mem_cons.mpr ⟨lw_p7, List.forall_mem_cons.mpr ⟨lw_p8, List.forall_mem_cons.mpr ⟨lw_p9, List.forall_mem_cons.mpr ⟨lw_p10, List.forall_mem_cons.mpr ⟨lw_p11, List.forall_mem_cons.mpr ⟨lw_p12, List.forall_mem_cons.mpr ⟨lw_p13, List.forall_mem_cons.mpr ⟨lw_p14, List.forall_mem_cons.mpr ⟨lw_p15, fun _ h => absurd h List.not_mem_nil⟩⟩⟩⟩⟩⟩⟩⟩⟩⟩⟩⟩⟩⟩⟩⟩
theorem lw_p16 : lw_okq (⟨"CoreFinderModel", "isRepair", "(I)Z"⟩, 4) := ⟨⟨by decide +kernel, by decide +kernel⟩, lw_t1 (List.mem_of_getElem? (i := 145) rfl), lw_t1 (List.mem_of_getElem? (i := 221) rfl), lw_t1 (List.mem_of_getElem? (i := 222) rfl)⟩
theorem lw_p17 : lw_okq (⟨"CoreFinderModel", "ones", "(I)I"⟩, 4) := ⟨⟨by decide +kernel, by decide +kernel⟩, lw_t1 (List.mem_of_getElem? (i := 145) rfl), lw_t2 (List.mem_of_getElem? (i := 1) rfl), lw_t2 (List.mem_of_getElem? (i := 2) rfl)⟩
def lw_privs_2 : List (MethodName × Nat) := [(⟨"CoreFinderModel", "isRepair", "(I)Z"⟩, 4), (⟨"CoreFinderModel", "ones", "(I)I"⟩, 4)]
theorem lw_r2 : ∀ q ∈ lw_privs_2, lw_okq q := List.forall_mem_cons.mpr ⟨lw_p16, List.forall_mem_cons.mpr ⟨lw_p17, fun _ h => absurd h List.not_mem_nil⟩⟩
def lw_privs : List (MethodName × Nat) := lw_privs_1 ++ (lw_privs_2)
def lw_tbl : List Cond := k2_sels lw_privs ++ tables_1
theorem lw_privs_ok : ∀ q ∈ lw_privs, lw_okq q := by
  show ∀ q ∈ lw_privs_1 ++ (lw_privs_2), lw_okq q
  exact List.forall_mem_append.mpr ⟨lw_r1, lw_r2⟩
-- ===== ONE list of words for every method: the tables' words that hold all through a run =====
def lw_all : List Cond := lw_tbl.filter goodWord
/-- a word of the tables by its place: claim/WORDS.tsv -/
theorem lw_w {w : Cond} (i : Nat) (h : lw_tbl[i]? = some w) (g : goodWord w = true) : w ∈ lw_all := List.mem_filter.mpr ⟨List.mem_of_getElem? h, g⟩
theorem lw_all_tbl {w : Cond} (h : w ∈ lw_all) : w ∈ lw_tbl := (List.mem_filter.mp h).1
theorem lw_self : GoodIn lw_all lw_all := fun w h => ⟨h, good_of_word (List.mem_filter.mp h).2⟩
/-- a class's field words, by their places -/
theorem lw_in (ws : List Cond) (ps : List Nat) (hp : ws = ps.filterMap (fun i => lw_tbl[i]?)) (hg : ws.all goodWord = true) : ∀ w ∈ ws, w ∈ lw_all := by
  intro w h
  have h1 := List.all_eq_true.mp hg w h
  rw [hp] at h
  obtain ⟨i, -, hi⟩ := List.mem_filterMap.mp h
  exact lw_w i hi h1
/-- the words of a contract for the method y with code b, L locals, answer r -/
abbrev ws_ (y : MethodName) (b : ByteArray) (L : Nat) (r : Option FieldType) : List Cond := Cond.code y b L r :: lw_all
theorem lw_meth {y : MethodName} {b : ByteArray} {L : Nat} {r : Option FieldType} (h : Cond.code y b L r ∈ lw_all) : GoodIn lw_all (ws_ y b L r) := by
  intro w hw
  rcases List.mem_cons.mp hw with e | e
  · rw [e]
    exact lw_self _ h
  · exact lw_self _ e
theorem lw_app {a c : List Cond} (ha : ∀ w ∈ a, w ∈ lw_all) (hc : GoodIn lw_all c) : GoodIn lw_all (a ++ c) := by
  intro w hw
  rcases List.mem_append.mp hw with e | e
  · exact lw_self w (ha w e)
  · exact hc w e
/-- what a call through an object asks: cwV n hts (lw_V ..) -/
theorem lw_V {own : String} {idx : Nat} {C : String} {y : MethodName} {b : ByteArray} {L : Nat} {r : Option FieldType} (h1 : Cond.methodLink own idx y ∈ lw_all) (h2 : Cond.instanceMethod y ∈ lw_all) (h3 : Cond.selects C y y ∈ lw_all) (h4 : Cond.initialized C ∈ lw_all) (h5 : Cond.code y b L r ∈ lw_all) : GoodIn lw_all (wsV own idx C y (ws_ y b L r)) := by
  refine lw_app ?_ (lw_meth h5)
  intro w hw
  simp only [List.mem_cons, List.not_mem_nil, or_false] at hw
  rcases hw with e | e | e | e
  · rw [e]; exact h1
  · rw [e]; exact h2
  · rw [e]; exact h3
  · rw [e]; exact h4
/-- what a static call asks: va_cwS n hts (lw_S ..) -/
theorem lw_S {own : String} {idx : Nat} {y : MethodName} {b : ByteArray} {L : Nat} {r : Option FieldType} (h1 : Cond.methodLink own idx y ∈ lw_all) (h2 : Cond.static y ∈ lw_all) (h3 : Cond.initialized y.cls ∈ lw_all) (h4 : Cond.code y b L r ∈ lw_all) : GoodIn lw_all (va_wsS own idx y (ws_ y b L r)) := by
  refine lw_app ?_ (lw_meth h4)
  intro w hw
  simp only [List.mem_cons, List.not_mem_nil, or_false] at hw
  rcases hw with e | e | e
  · rw [e]; exact h1
  · rw [e]; exact h2
  · rw [e]; exact h3
/-- the words of a contract for a method WITH HANDLERS (hh: its table) -/
abbrev wsW_ (y : MethodName) (b : ByteArray) (L : Nat) (r : Option FieldType) (hh : List (Nat × Nat × Nat × Nat)) : List Cond := Cond.codeWith y b L r hh :: lw_all
theorem lw_methW {y : MethodName} {b : ByteArray} {L : Nat} {r : Option FieldType} {hh : List (Nat × Nat × Nat × Nat)} (h : Cond.codeWith y b L r hh ∈ lw_all) : GoodIn lw_all (wsW_ y b L r hh) := by
  intro w hw
  rcases List.mem_cons.mp hw with e | e
  · rw [e]
    exact lw_self _ h
  · exact lw_self _ e
/-- any list of words by their places (lw_in), good -/
theorem lw_good {ws : List Cond} (h : ∀ w ∈ ws, w ∈ lw_all) : GoodIn lw_all ws := fun w hw => lw_self w (h w hw)
/-- what a call of a method with handlers asks: vx_cwVW n hts (lw_VW ..), vx_cwSW n hts (lw_SW ..) -/
theorem lw_VW {own : String} {idx : Nat} {C : String} {y : MethodName} {b : ByteArray} {L : Nat} {r : Option FieldType} {hh : List (Nat × Nat × Nat × Nat)} (h1 : Cond.methodLink own idx y ∈ lw_all) (h2 : Cond.instanceMethod y ∈ lw_all) (h3 : Cond.selects C y y ∈ lw_all) (h4 : Cond.initialized C ∈ lw_all) (h5 : Cond.codeWith y b L r hh ∈ lw_all) : GoodIn lw_all (wsV own idx C y (wsW_ y b L r hh)) := by
  refine lw_app ?_ (lw_methW h5)
  intro w hw
  simp only [List.mem_cons, List.not_mem_nil, or_false] at hw
  rcases hw with e | e | e | e
  · rw [e]; exact h1
  · rw [e]; exact h2
  · rw [e]; exact h3
  · rw [e]; exact h4
theorem lw_SW {own : String} {idx : Nat} {y : MethodName} {b : ByteArray} {L : Nat} {r : Option FieldType} {hh : List (Nat × Nat × Nat × Nat)} (h1 : Cond.methodLink own idx y ∈ lw_all) (h2 : Cond.static y ∈ lw_all) (h3 : Cond.initialized y.cls ∈ lw_all) (h4 : Cond.codeWith y b L r hh ∈ lw_all) : GoodIn lw_all (va_wsS own idx y (wsW_ y b L r hh)) := by
  refine lw_app ?_ (lw_methW h4)
  intro w hw
  simp only [List.mem_cons, List.not_mem_nil, or_false] at hw
  rcases hw with e | e | e
  · rw [e]; exact h1
  · rw [e]; exact h2
  · rw [e]; exact h3
/-- a word by its place in its run of the tables -/
theorem lw_at {r : List Cond} (hr : ∀ w ∈ r, w ∈ lw_tbl) {w : Cond} (i : Nat) (h : r[i]? = some w) : w ∈ lw_tbl := hr w (List.mem_of_getElem? h)
theorem lw_g {w : Cond} (h : w ∈ lw_tbl) (g : goodWord w = true) : w ∈ lw_all := List.mem_filter.mpr ⟨h, g⟩
theorem lw_ms : ∀ w ∈ k2_sels lw_privs, w ∈ lw_tbl := fun w h => show w ∈ k2_sels lw_privs ++ tables_1 from List.mem_append_left _ h
theorem lw_m1 : ∀ w ∈ tables_1_1, w ∈ lw_tbl := fun w h => show w ∈ k2_sels lw_privs ++ tables_1 from List.mem_append_right (k2_sels lw_privs) (show w ∈ tables_1 from List.mem_append_left _ h)
theorem lw_m2 : ∀ w ∈ tables_1_2, w ∈ lw_tbl := fun w h => show w ∈ k2_sels lw_privs ++ tables_1 from List.mem_append_right (k2_sels lw_privs) (show w ∈ tables_1 from List.mem_append_right _ h)
theorem qs0 : (Cond.selects "CoreFinder" ⟨"CoreFinder", "has", "(I)Z"⟩ ⟨"CoreFinder", "has", "(I)Z"⟩) ∈ lw_all := lw_g (lw_at lw_ms 0 rfl) rfl
theorem qs1 : (Cond.selects "CoreFinder" ⟨"CoreFinder", "holdsTogether", "(I)Z"⟩ ⟨"CoreFinder", "holdsTogether", "(I)Z"⟩) ∈ lw_all := lw_g (lw_at lw_ms 1 rfl) rfl
theorem qs2 : (Cond.selects "CoreFinder" ⟨"CoreFinder", "solve", "(III)I"⟩ ⟨"CoreFinder", "solve", "(III)I"⟩) ∈ lw_all := lw_g (lw_at lw_ms 2 rfl) rfl
theorem qs3 : (Cond.selects "CoreFinder" ⟨"CoreFinder", "broken", "(III)Z"⟩ ⟨"CoreFinder", "broken", "(III)Z"⟩) ∈ lw_all := lw_g (lw_at lw_ms 3 rfl) rfl
theorem qs4 : (Cond.selects "CoreFinder" ⟨"CoreFinder", "learn", "()V"⟩ ⟨"CoreFinder", "learn", "()V"⟩) ∈ lw_all := lw_g (lw_at lw_ms 4 rfl) rfl
theorem qs5 : (Cond.selects "CoreFinder" ⟨"CoreFinder", "undecided", "()I"⟩ ⟨"CoreFinder", "undecided", "()I"⟩) ∈ lw_all := lw_g (lw_at lw_ms 5 rfl) rfl
theorem qs6 : (Cond.selects "CoreFinder" ⟨"CoreFinder", "isDecided", "(I)Z"⟩ ⟨"CoreFinder", "isDecided", "(I)Z"⟩) ∈ lw_all := lw_g (lw_at lw_ms 6 rfl) rfl
theorem qs7 : (Cond.selects "CoreFinder" ⟨"CoreFinder", "grow", "(I)V"⟩ ⟨"CoreFinder", "grow", "(I)V"⟩) ∈ lw_all := lw_g (lw_at lw_ms 7 rfl) rfl
theorem qs8 : (Cond.selects "CoreFinder" ⟨"CoreFinder", "shrink", "(I)V"⟩ ⟨"CoreFinder", "shrink", "(I)V"⟩) ∈ lw_all := lw_g (lw_at lw_ms 8 rfl) rfl
theorem qs9 : (Cond.selects "CoreFinder" ⟨"CoreFinder", "isCore", "(I)Z"⟩ ⟨"CoreFinder", "isCore", "(I)Z"⟩) ∈ lw_all := lw_g (lw_at lw_ms 9 rfl) rfl
theorem qs10 : (Cond.selects "CoreFinder" ⟨"CoreFinder", "isRepair", "(I)Z"⟩ ⟨"CoreFinder", "isRepair", "(I)Z"⟩) ∈ lw_all := lw_g (lw_at lw_ms 10 rfl) rfl
theorem qs11 : (Cond.selects "CoreFinderModel" ⟨"CoreFinderModel", "letters", "(I)Z"⟩ ⟨"CoreFinderModel", "letters", "(I)Z"⟩) ∈ lw_all := lw_g (lw_at lw_ms 11 rfl) rfl
theorem qs12 : (Cond.selects "CoreFinderModel" ⟨"CoreFinderModel", "allHold", "(II)Z"⟩ ⟨"CoreFinderModel", "allHold", "(II)Z"⟩) ∈ lw_all := lw_g (lw_at lw_ms 12 rfl) rfl
theorem qs13 : (Cond.selects "CoreFinderModel" ⟨"CoreFinderModel", "holds", "(III)Z"⟩ ⟨"CoreFinderModel", "holds", "(III)Z"⟩) ∈ lw_all := lw_g (lw_at lw_ms 13 rfl) rfl
theorem qs14 : (Cond.selects "CoreFinderModel" ⟨"CoreFinderModel", "work", "()V"⟩ ⟨"CoreFinderModel", "work", "()V"⟩) ∈ lw_all := lw_g (lw_at lw_ms 14 rfl) rfl
theorem qs15 : (Cond.selects "CoreFinderModel" ⟨"CoreFinderModel", "isCore", "(I)Z"⟩ ⟨"CoreFinderModel", "isCore", "(I)Z"⟩) ∈ lw_all := lw_g (lw_at lw_ms 15 rfl) rfl
theorem qs16 : (Cond.selects "CoreFinderModel" ⟨"CoreFinderModel", "isRepair", "(I)Z"⟩ ⟨"CoreFinderModel", "isRepair", "(I)Z"⟩) ∈ lw_all := lw_g (lw_at lw_ms 16 rfl) rfl
theorem qs17 : (Cond.selects "CoreFinderModel" ⟨"CoreFinderModel", "ones", "(I)I"⟩ ⟨"CoreFinderModel", "ones", "(I)I"⟩) ∈ lw_all := lw_g (lw_at lw_ms 17 rfl) rfl
end
section
set_option maxRecDepth 100000
/-! CoreFinder -/
def RX0 : String := "CoreFinder"
def TX0 : u_T := fun k => match k with
  | 0 => ("CoreFinder", "present", "I", false)
  | 1 => ("CoreFinder", "poses", "[B", true)
  | 2 => ("CoreFinder", "negs", "[B", true)
  | 3 => ("CoreFinder", "known", "Z", false)
  | 4 => ("CoreFinder", "decided", "[J", true)
  | 5 => ("CoreFinder", "coreSets", "[J", true)
  | _ => ("CoreFinder", "repairSets", "[J", true)
def tyX0 : Nat → FieldType := fun k => match k with
  | 0 => .int
  | 1 => .array .byte
  | 2 => .array .byte
  | 3 => .boolean
  | 4 => .array .long
  | 5 => .array .long
  | _ => .array .long
abbrev wsX00 : List Cond := u_ws RX0 TX0 7
theorem nmX0 : ∀ a, a < 7 → ∀ b, b < 7 → a ≠ b → (TX0 a).2.1 ≠ (TX0 b).2.1 := by decide +kernel
theorem tyX0_ok : ∀ k, k < 7 → parseFieldDescriptor (TX0 k).2.2.1 = some (tyX0 k) := by decide +kernel
abbrev cX0_init : ByteArray := prog_1_method_1_code
def yX0_init : MethodName := ⟨RX0, "<init>", "()V"⟩
abbrev cX0_add : ByteArray := prog_1_method_5_code
def yX0_add : MethodName := ⟨RX0, "add", "(II)I"⟩
abbrev cX0_isSet : ByteArray := prog_1_method_3_code
def yX0_isSet : MethodName := ⟨RX0, "isSet", "(I)Z"⟩
abbrev cX0_has : ByteArray := prog_1_method_2_code
def yX0_has : MethodName := ⟨RX0, "has", "(I)Z"⟩
abbrev cX0_remove : ByteArray := prog_1_method_6_code
def yX0_remove : MethodName := ⟨RX0, "remove", "(I)Z"⟩
abbrev cX0_clauses : ByteArray := prog_1_method_7_code
def yX0_clauses : MethodName := ⟨RX0, "clauses", "()I"⟩
abbrev cX0_consistent : ByteArray := prog_1_method_19_code
def yX0_consistent : MethodName := ⟨RX0, "consistent", "(I)Z"⟩
abbrev cX0_holdsTogether : ByteArray := prog_1_method_10_code
def yX0_holdsTogether : MethodName := ⟨RX0, "holdsTogether", "(I)Z"⟩
abbrev cX0_solve : ByteArray := prog_1_method_9_code
def yX0_solve : MethodName := ⟨RX0, "solve", "(III)I"⟩
abbrev cX0_broken : ByteArray := prog_1_method_8_code
def yX0_broken : MethodName := ⟨RX0, "broken", "(III)Z"⟩
abbrev cX0_witness : ByteArray := prog_1_method_20_code
def yX0_witness : MethodName := ⟨RX0, "witness", "(I)I"⟩
abbrev cX0_cores : ByteArray := prog_1_method_21_code
def yX0_cores : MethodName := ⟨RX0, "cores", "()I"⟩
abbrev cX0_learn : ByteArray := prog_1_method_15_code
def yX0_learn : MethodName := ⟨RX0, "learn", "()V"⟩
abbrev cX0_undecided : ByteArray := prog_1_method_16_code
def yX0_undecided : MethodName := ⟨RX0, "undecided", "()I"⟩
abbrev cX0_isDecided : ByteArray := prog_1_method_12_code
def yX0_isDecided : MethodName := ⟨RX0, "isDecided", "(I)Z"⟩
abbrev cX0_inWords : ByteArray := prog_1_method_11_code
def yX0_inWords : MethodName := ⟨RX0, "inWords", "(JJI)Z"⟩
abbrev cX0_grow : ByteArray := prog_1_method_17_code
def yX0_grow : MethodName := ⟨RX0, "grow", "(I)V"⟩
abbrev cX0_shrink : ByteArray := prog_1_method_18_code
def yX0_shrink : MethodName := ⟨RX0, "shrink", "(I)V"⟩
abbrev cX0_isCore : ByteArray := prog_1_method_13_code
def yX0_isCore : MethodName := ⟨RX0, "isCore", "(I)Z"⟩
abbrev cX0_core : ByteArray := prog_1_method_22_code
def yX0_core : MethodName := ⟨RX0, "core", "(I)I"⟩
abbrev cX0_repairs : ByteArray := prog_1_method_23_code
def yX0_repairs : MethodName := ⟨RX0, "repairs", "()I"⟩
abbrev cX0_isRepair : ByteArray := prog_1_method_14_code
def yX0_isRepair : MethodName := ⟨RX0, "isRepair", "(I)Z"⟩
abbrev cX0_repair : ByteArray := prog_1_method_24_code
def yX0_repair : MethodName := ⟨RX0, "repair", "(I)I"⟩
abbrev cX0_guilty : ByteArray := prog_1_method_25_code
def yX0_guilty : MethodName := ⟨RX0, "guilty", "()I"⟩
abbrev cX0_central : ByteArray := prog_1_method_26_code
def yX0_central : MethodName := ⟨RX0, "central", "()I"⟩
abbrev cX0_smallestCore : ByteArray := prog_1_method_27_code
def yX0_smallestCore : MethodName := ⟨RX0, "smallestCore", "()I"⟩
abbrev cX0_ones : ByteArray := prog_1_method_4_code
def yX0_ones : MethodName := ⟨RX0, "ones", "(I)I"⟩
abbrev cX0_mostTogether : ByteArray := prog_1_method_28_code
def yX0_mostTogether : MethodName := ⟨RX0, "mostTogether", "()I"⟩
abbrev cX0_follows : ByteArray := prog_1_method_29_code
def yX0_follows : MethodName := ⟨RX0, "follows", "(II)Z"⟩
theorem q19 : (Jvm.Cond.initialized "CoreFinder") ∈ lw_all := lw_g (lw_at lw_m1 1 rfl) rfl
theorem q22 : (Jvm.Cond.instantiable "CoreFinder" (7 : Nat)) ∈ lw_all := lw_g (lw_at lw_m1 4 rfl) rfl
theorem q24 : (Jvm.Cond.instanceMethod ({ cls := "CoreFinder", name := "<init>", desc := "()V" } : Jvm.MethodName)) ∈ lw_all := lw_g (lw_at lw_m1 6 rfl) rfl
theorem q25 : (Jvm.Cond.code ({ cls := "CoreFinder", name := "<init>", desc := "()V" } : Jvm.MethodName) prog_1_method_1_code (1 : Nat) (Option.none : Option Jvm.ClassFile.FieldType)) ∈ lw_all := lw_g (lw_at lw_m1 7 rfl) rfl
theorem q26 : (Jvm.Cond.methodLink "CoreFinder" (1 : Nat) ({ cls := "java/lang/Object", name := "<init>", desc := "()V" } : Jvm.MethodName)) ∈ lw_all := lw_g (lw_at lw_m1 8 rfl) rfl
theorem q29 : (Jvm.Cond.fieldLink "CoreFinder" (26 : Nat) "CoreFinder" "present" "I") ∈ lw_all := lw_g (lw_at lw_m1 11 rfl) rfl
theorem q30 : (Jvm.Cond.fieldLink "CoreFinder" (7 : Nat) "CoreFinder" "poses" "[B") ∈ lw_all := lw_g (lw_at lw_m1 12 rfl) rfl
theorem q31 : (Jvm.Cond.fieldLink "CoreFinder" (13 : Nat) "CoreFinder" "negs" "[B") ∈ lw_all := lw_g (lw_at lw_m1 13 rfl) rfl
theorem q32 : (Jvm.Cond.fieldLink "CoreFinder" (37 : Nat) "CoreFinder" "known" "Z") ∈ lw_all := lw_g (lw_at lw_m1 14 rfl) rfl
theorem q33 : (Jvm.Cond.fieldLink "CoreFinder" (16 : Nat) "CoreFinder" "decided" "[J") ∈ lw_all := lw_g (lw_at lw_m1 15 rfl) rfl
theorem q34 : (Jvm.Cond.fieldLink "CoreFinder" (20 : Nat) "CoreFinder" "coreSets" "[J") ∈ lw_all := lw_g (lw_at lw_m1 16 rfl) rfl
theorem q35 : (Jvm.Cond.fieldLink "CoreFinder" (23 : Nat) "CoreFinder" "repairSets" "[J") ∈ lw_all := lw_g (lw_at lw_m1 17 rfl) rfl
theorem q36 : (Jvm.Cond.lays "CoreFinder" "CoreFinder" "present" "I") ∈ lw_all := lw_g (lw_at lw_m1 18 rfl) rfl
theorem q37 : (Jvm.Cond.soleField "CoreFinder" "present") ∈ lw_all := lw_g (lw_at lw_m1 19 rfl) rfl
theorem q38 : (Jvm.Cond.laysFinal "CoreFinder" "CoreFinder" "poses" "[B") ∈ lw_all := lw_g (lw_at lw_m1 20 rfl) rfl
theorem q39 : (Jvm.Cond.soleField "CoreFinder" "poses") ∈ lw_all := lw_g (lw_at lw_m1 21 rfl) rfl
theorem q40 : (Jvm.Cond.laysFinal "CoreFinder" "CoreFinder" "negs" "[B") ∈ lw_all := lw_g (lw_at lw_m1 22 rfl) rfl
theorem q41 : (Jvm.Cond.soleField "CoreFinder" "negs") ∈ lw_all := lw_g (lw_at lw_m1 23 rfl) rfl
theorem q42 : (Jvm.Cond.lays "CoreFinder" "CoreFinder" "known" "Z") ∈ lw_all := lw_g (lw_at lw_m1 24 rfl) rfl
theorem q43 : (Jvm.Cond.soleField "CoreFinder" "known") ∈ lw_all := lw_g (lw_at lw_m1 25 rfl) rfl
theorem q44 : (Jvm.Cond.laysFinal "CoreFinder" "CoreFinder" "decided" "[J") ∈ lw_all := lw_g (lw_at lw_m1 26 rfl) rfl
theorem q45 : (Jvm.Cond.soleField "CoreFinder" "decided") ∈ lw_all := lw_g (lw_at lw_m1 27 rfl) rfl
theorem q46 : (Jvm.Cond.laysFinal "CoreFinder" "CoreFinder" "coreSets" "[J") ∈ lw_all := lw_g (lw_at lw_m1 28 rfl) rfl
theorem q47 : (Jvm.Cond.soleField "CoreFinder" "coreSets") ∈ lw_all := lw_g (lw_at lw_m1 29 rfl) rfl
theorem q48 : (Jvm.Cond.laysFinal "CoreFinder" "CoreFinder" "repairSets" "[J") ∈ lw_all := lw_g (lw_at lw_m1 30 rfl) rfl
theorem q49 : (Jvm.Cond.soleField "CoreFinder" "repairSets") ∈ lw_all := lw_g (lw_at lw_m1 31 rfl) rfl
theorem q50 : (Jvm.Cond.superclass "CoreFinder" "java/lang/Object") ∈ lw_all := lw_g (lw_at lw_m1 32 rfl) rfl
theorem q54 : (Jvm.Cond.instanceMethod ({ cls := "CoreFinder", name := "add", desc := "(II)I" } : Jvm.MethodName)) ∈ lw_all := lw_g (lw_at lw_m1 36 rfl) rfl
theorem q55 : (Jvm.Cond.selects "CoreFinder" ({ cls := "CoreFinder", name := "add", desc := "(II)I" } : Jvm.MethodName) ({ cls := "CoreFinder", name := "add", desc := "(II)I" } : Jvm.MethodName)) ∈ lw_all := lw_g (lw_at lw_m1 37 rfl) rfl
theorem q56 : (Jvm.Cond.code ({ cls := "CoreFinder", name := "add", desc := "(II)I" } : Jvm.MethodName) prog_1_method_5_code (4 : Nat) (Option.some Jvm.ClassFile.FieldType.int)) ∈ lw_all := lw_g (lw_at lw_m1 38 rfl) rfl
theorem q57 : (Jvm.Cond.methodLink "CoreFinder" (30 : Nat) ({ cls := "CoreFinder", name := "isSet", desc := "(I)Z" } : Jvm.MethodName)) ∈ lw_all := lw_g (lw_at lw_m1 39 rfl) rfl
theorem q58 : (Jvm.Cond.static ({ cls := "CoreFinder", name := "isSet", desc := "(I)Z" } : Jvm.MethodName)) ∈ lw_all := lw_g (lw_at lw_m1 40 rfl) rfl
theorem q59 : (Jvm.Cond.code ({ cls := "CoreFinder", name := "isSet", desc := "(I)Z" } : Jvm.MethodName) prog_1_method_3_code (1 : Nat) (Option.some Jvm.ClassFile.FieldType.boolean)) ∈ lw_all := lw_g (lw_at lw_m1 41 rfl) rfl
theorem q60 : (Jvm.Cond.methodLink "CoreFinder" (34 : Nat) ({ cls := "CoreFinder", name := "has", desc := "(I)Z" } : Jvm.MethodName)) ∈ lw_all := lw_g (lw_at lw_m1 42 rfl) rfl
theorem q61 : (Jvm.Cond.privateMethod ({ cls := "CoreFinder", name := "has", desc := "(I)Z" } : Jvm.MethodName)) ∈ lw_tbl := lw_at lw_m1 43 rfl
theorem q62 : (Jvm.Cond.instanceMethod ({ cls := "CoreFinder", name := "has", desc := "(I)Z" } : Jvm.MethodName)) ∈ lw_all := lw_g (lw_at lw_m1 44 rfl) rfl
theorem q63 : (Jvm.Cond.code ({ cls := "CoreFinder", name := "has", desc := "(I)Z" } : Jvm.MethodName) prog_1_method_2_code (2 : Nat) (Option.some Jvm.ClassFile.FieldType.boolean)) ∈ lw_all := lw_g (lw_at lw_m1 45 rfl) rfl
theorem q65 : (Jvm.Cond.instanceMethod ({ cls := "CoreFinder", name := "remove", desc := "(I)Z" } : Jvm.MethodName)) ∈ lw_all := lw_g (lw_at lw_m1 47 rfl) rfl
theorem q66 : (Jvm.Cond.selects "CoreFinder" ({ cls := "CoreFinder", name := "remove", desc := "(I)Z" } : Jvm.MethodName) ({ cls := "CoreFinder", name := "remove", desc := "(I)Z" } : Jvm.MethodName)) ∈ lw_all := lw_g (lw_at lw_m1 48 rfl) rfl
theorem q67 : (Jvm.Cond.code ({ cls := "CoreFinder", name := "remove", desc := "(I)Z" } : Jvm.MethodName) prog_1_method_6_code (2 : Nat) (Option.some Jvm.ClassFile.FieldType.boolean)) ∈ lw_all := lw_g (lw_at lw_m1 49 rfl) rfl
theorem q69 : (Jvm.Cond.instanceMethod ({ cls := "CoreFinder", name := "clauses", desc := "()I" } : Jvm.MethodName)) ∈ lw_all := lw_g (lw_at lw_m1 51 rfl) rfl
theorem q70 : (Jvm.Cond.selects "CoreFinder" ({ cls := "CoreFinder", name := "clauses", desc := "()I" } : Jvm.MethodName) ({ cls := "CoreFinder", name := "clauses", desc := "()I" } : Jvm.MethodName)) ∈ lw_all := lw_g (lw_at lw_m1 52 rfl) rfl
theorem q71 : (Jvm.Cond.code ({ cls := "CoreFinder", name := "clauses", desc := "()I" } : Jvm.MethodName) prog_1_method_7_code (1 : Nat) (Option.some Jvm.ClassFile.FieldType.int)) ∈ lw_all := lw_g (lw_at lw_m1 53 rfl) rfl
theorem q73 : (Jvm.Cond.instanceMethod ({ cls := "CoreFinder", name := "consistent", desc := "(I)Z" } : Jvm.MethodName)) ∈ lw_all := lw_g (lw_at lw_m1 55 rfl) rfl
theorem q74 : (Jvm.Cond.selects "CoreFinder" ({ cls := "CoreFinder", name := "consistent", desc := "(I)Z" } : Jvm.MethodName) ({ cls := "CoreFinder", name := "consistent", desc := "(I)Z" } : Jvm.MethodName)) ∈ lw_all := lw_g (lw_at lw_m1 56 rfl) rfl
theorem q75 : (Jvm.Cond.code ({ cls := "CoreFinder", name := "consistent", desc := "(I)Z" } : Jvm.MethodName) prog_1_method_19_code (2 : Nat) (Option.some Jvm.ClassFile.FieldType.boolean)) ∈ lw_all := lw_g (lw_at lw_m1 57 rfl) rfl
theorem q76 : (Jvm.Cond.methodLink "CoreFinder" (57 : Nat) ({ cls := "CoreFinder", name := "holdsTogether", desc := "(I)Z" } : Jvm.MethodName)) ∈ lw_all := lw_g (lw_at lw_m1 58 rfl) rfl
theorem q77 : (Jvm.Cond.privateMethod ({ cls := "CoreFinder", name := "holdsTogether", desc := "(I)Z" } : Jvm.MethodName)) ∈ lw_tbl := lw_at lw_m1 59 rfl
theorem q78 : (Jvm.Cond.instanceMethod ({ cls := "CoreFinder", name := "holdsTogether", desc := "(I)Z" } : Jvm.MethodName)) ∈ lw_all := lw_g (lw_at lw_m1 60 rfl) rfl
theorem q79 : (Jvm.Cond.code ({ cls := "CoreFinder", name := "holdsTogether", desc := "(I)Z" } : Jvm.MethodName) prog_1_method_10_code (2 : Nat) (Option.some Jvm.ClassFile.FieldType.boolean)) ∈ lw_all := lw_g (lw_at lw_m1 61 rfl) rfl
theorem q80 : (Jvm.Cond.methodLink "CoreFinder" (45 : Nat) ({ cls := "CoreFinder", name := "solve", desc := "(III)I" } : Jvm.MethodName)) ∈ lw_all := lw_g (lw_at lw_m1 62 rfl) rfl
theorem q81 : (Jvm.Cond.privateMethod ({ cls := "CoreFinder", name := "solve", desc := "(III)I" } : Jvm.MethodName)) ∈ lw_tbl := lw_at lw_m1 63 rfl
theorem q82 : (Jvm.Cond.instanceMethod ({ cls := "CoreFinder", name := "solve", desc := "(III)I" } : Jvm.MethodName)) ∈ lw_all := lw_g (lw_at lw_m1 64 rfl) rfl
theorem q83 : (Jvm.Cond.code ({ cls := "CoreFinder", name := "solve", desc := "(III)I" } : Jvm.MethodName) prog_1_method_9_code (9 : Nat) (Option.some Jvm.ClassFile.FieldType.int)) ∈ lw_all := lw_g (lw_at lw_m1 65 rfl) rfl
theorem q84 : (Jvm.Cond.methodLink "CoreFinder" (41 : Nat) ({ cls := "CoreFinder", name := "broken", desc := "(III)Z" } : Jvm.MethodName)) ∈ lw_all := lw_g (lw_at lw_m1 66 rfl) rfl
theorem q85 : (Jvm.Cond.privateMethod ({ cls := "CoreFinder", name := "broken", desc := "(III)Z" } : Jvm.MethodName)) ∈ lw_tbl := lw_at lw_m1 67 rfl
theorem q86 : (Jvm.Cond.instanceMethod ({ cls := "CoreFinder", name := "broken", desc := "(III)Z" } : Jvm.MethodName)) ∈ lw_all := lw_g (lw_at lw_m1 68 rfl) rfl
theorem q87 : (Jvm.Cond.code ({ cls := "CoreFinder", name := "broken", desc := "(III)Z" } : Jvm.MethodName) prog_1_method_8_code (8 : Nat) (Option.some Jvm.ClassFile.FieldType.boolean)) ∈ lw_all := lw_g (lw_at lw_m1 69 rfl) rfl
theorem q89 : (Jvm.Cond.instanceMethod ({ cls := "CoreFinder", name := "witness", desc := "(I)I" } : Jvm.MethodName)) ∈ lw_all := lw_g (lw_at lw_m1 71 rfl) rfl
theorem q90 : (Jvm.Cond.selects "CoreFinder" ({ cls := "CoreFinder", name := "witness", desc := "(I)I" } : Jvm.MethodName) ({ cls := "CoreFinder", name := "witness", desc := "(I)I" } : Jvm.MethodName)) ∈ lw_all := lw_g (lw_at lw_m1 72 rfl) rfl
theorem q91 : (Jvm.Cond.code ({ cls := "CoreFinder", name := "witness", desc := "(I)I" } : Jvm.MethodName) prog_1_method_20_code (2 : Nat) (Option.some Jvm.ClassFile.FieldType.int)) ∈ lw_all := lw_g (lw_at lw_m1 73 rfl) rfl
theorem q93 : (Jvm.Cond.instanceMethod ({ cls := "CoreFinder", name := "cores", desc := "()I" } : Jvm.MethodName)) ∈ lw_all := lw_g (lw_at lw_m1 75 rfl) rfl
theorem q94 : (Jvm.Cond.selects "CoreFinder" ({ cls := "CoreFinder", name := "cores", desc := "()I" } : Jvm.MethodName) ({ cls := "CoreFinder", name := "cores", desc := "()I" } : Jvm.MethodName)) ∈ lw_all := lw_g (lw_at lw_m1 76 rfl) rfl
theorem q95 : (Jvm.Cond.code ({ cls := "CoreFinder", name := "cores", desc := "()I" } : Jvm.MethodName) prog_1_method_21_code (3 : Nat) (Option.some Jvm.ClassFile.FieldType.int)) ∈ lw_all := lw_g (lw_at lw_m1 77 rfl) rfl
theorem q96 : (Jvm.Cond.methodLink "CoreFinder" (70 : Nat) ({ cls := "CoreFinder", name := "learn", desc := "()V" } : Jvm.MethodName)) ∈ lw_all := lw_g (lw_at lw_m1 78 rfl) rfl
theorem q97 : (Jvm.Cond.privateMethod ({ cls := "CoreFinder", name := "learn", desc := "()V" } : Jvm.MethodName)) ∈ lw_tbl := lw_at lw_m1 79 rfl
theorem q98 : (Jvm.Cond.instanceMethod ({ cls := "CoreFinder", name := "learn", desc := "()V" } : Jvm.MethodName)) ∈ lw_all := lw_g (lw_at lw_m1 80 rfl) rfl
theorem q99 : (Jvm.Cond.code ({ cls := "CoreFinder", name := "learn", desc := "()V" } : Jvm.MethodName) prog_1_method_15_code (3 : Nat) (Option.none : Option Jvm.ClassFile.FieldType)) ∈ lw_all := lw_g (lw_at lw_m1 81 rfl) rfl
theorem q100 : (Jvm.Cond.methodLink "CoreFinder" (53 : Nat) ({ cls := "CoreFinder", name := "undecided", desc := "()I" } : Jvm.MethodName)) ∈ lw_all := lw_g (lw_at lw_m1 82 rfl) rfl
theorem q101 : (Jvm.Cond.privateMethod ({ cls := "CoreFinder", name := "undecided", desc := "()I" } : Jvm.MethodName)) ∈ lw_tbl := lw_at lw_m1 83 rfl
theorem q102 : (Jvm.Cond.instanceMethod ({ cls := "CoreFinder", name := "undecided", desc := "()I" } : Jvm.MethodName)) ∈ lw_all := lw_g (lw_at lw_m1 84 rfl) rfl
theorem q103 : (Jvm.Cond.code ({ cls := "CoreFinder", name := "undecided", desc := "()I" } : Jvm.MethodName) prog_1_method_16_code (2 : Nat) (Option.some Jvm.ClassFile.FieldType.int)) ∈ lw_all := lw_g (lw_at lw_m1 85 rfl) rfl
theorem q104 : (Jvm.Cond.methodLink "CoreFinder" (67 : Nat) ({ cls := "CoreFinder", name := "isDecided", desc := "(I)Z" } : Jvm.MethodName)) ∈ lw_all := lw_g (lw_at lw_m1 86 rfl) rfl
theorem q105 : (Jvm.Cond.privateMethod ({ cls := "CoreFinder", name := "isDecided", desc := "(I)Z" } : Jvm.MethodName)) ∈ lw_tbl := lw_at lw_m1 87 rfl
theorem q106 : (Jvm.Cond.instanceMethod ({ cls := "CoreFinder", name := "isDecided", desc := "(I)Z" } : Jvm.MethodName)) ∈ lw_all := lw_g (lw_at lw_m1 88 rfl) rfl
theorem q107 : (Jvm.Cond.code ({ cls := "CoreFinder", name := "isDecided", desc := "(I)Z" } : Jvm.MethodName) prog_1_method_12_code (2 : Nat) (Option.some Jvm.ClassFile.FieldType.boolean)) ∈ lw_all := lw_g (lw_at lw_m1 89 rfl) rfl
theorem q108 : (Jvm.Cond.methodLink "CoreFinder" (49 : Nat) ({ cls := "CoreFinder", name := "inWords", desc := "(JJI)Z" } : Jvm.MethodName)) ∈ lw_all := lw_g (lw_at lw_m1 90 rfl) rfl
theorem q109 : (Jvm.Cond.static ({ cls := "CoreFinder", name := "inWords", desc := "(JJI)Z" } : Jvm.MethodName)) ∈ lw_all := lw_g (lw_at lw_m1 91 rfl) rfl
theorem q110 : (Jvm.Cond.code ({ cls := "CoreFinder", name := "inWords", desc := "(JJI)Z" } : Jvm.MethodName) prog_1_method_11_code (5 : Nat) (Option.some Jvm.ClassFile.FieldType.boolean)) ∈ lw_all := lw_g (lw_at lw_m1 92 rfl) rfl
theorem q111 : (Jvm.Cond.methodLink "CoreFinder" (60 : Nat) ({ cls := "CoreFinder", name := "grow", desc := "(I)V" } : Jvm.MethodName)) ∈ lw_all := lw_g (lw_at lw_m1 93 rfl) rfl
theorem q112 : (Jvm.Cond.privateMethod ({ cls := "CoreFinder", name := "grow", desc := "(I)V" } : Jvm.MethodName)) ∈ lw_tbl := lw_at lw_m1 94 rfl
theorem q113 : (Jvm.Cond.instanceMethod ({ cls := "CoreFinder", name := "grow", desc := "(I)V" } : Jvm.MethodName)) ∈ lw_all := lw_g (lw_at lw_m1 95 rfl) rfl
theorem q114 : (Jvm.Cond.code ({ cls := "CoreFinder", name := "grow", desc := "(I)V" } : Jvm.MethodName) prog_1_method_17_code (5 : Nat) (Option.none : Option Jvm.ClassFile.FieldType)) ∈ lw_all := lw_g (lw_at lw_m1 96 rfl) rfl
theorem q115 : (Jvm.Cond.methodLink "CoreFinder" (64 : Nat) ({ cls := "CoreFinder", name := "shrink", desc := "(I)V" } : Jvm.MethodName)) ∈ lw_all := lw_g (lw_at lw_m1 97 rfl) rfl
theorem q116 : (Jvm.Cond.privateMethod ({ cls := "CoreFinder", name := "shrink", desc := "(I)V" } : Jvm.MethodName)) ∈ lw_tbl := lw_at lw_m1 98 rfl
theorem q117 : (Jvm.Cond.instanceMethod ({ cls := "CoreFinder", name := "shrink", desc := "(I)V" } : Jvm.MethodName)) ∈ lw_all := lw_g (lw_at lw_m1 99 rfl) rfl
theorem q118 : (Jvm.Cond.code ({ cls := "CoreFinder", name := "shrink", desc := "(I)V" } : Jvm.MethodName) prog_1_method_18_code (4 : Nat) (Option.none : Option Jvm.ClassFile.FieldType)) ∈ lw_all := lw_g (lw_at lw_m1 100 rfl) rfl
theorem q119 : (Jvm.Cond.methodLink "CoreFinder" (73 : Nat) ({ cls := "CoreFinder", name := "isCore", desc := "(I)Z" } : Jvm.MethodName)) ∈ lw_all := lw_g (lw_at lw_m1 101 rfl) rfl
theorem q120 : (Jvm.Cond.privateMethod ({ cls := "CoreFinder", name := "isCore", desc := "(I)Z" } : Jvm.MethodName)) ∈ lw_tbl := lw_at lw_m1 102 rfl
theorem q121 : (Jvm.Cond.instanceMethod ({ cls := "CoreFinder", name := "isCore", desc := "(I)Z" } : Jvm.MethodName)) ∈ lw_all := lw_g (lw_at lw_m1 103 rfl) rfl
theorem q122 : (Jvm.Cond.code ({ cls := "CoreFinder", name := "isCore", desc := "(I)Z" } : Jvm.MethodName) prog_1_method_13_code (2 : Nat) (Option.some Jvm.ClassFile.FieldType.boolean)) ∈ lw_all := lw_g (lw_at lw_m1 104 rfl) rfl
theorem q124 : (Jvm.Cond.instanceMethod ({ cls := "CoreFinder", name := "core", desc := "(I)I" } : Jvm.MethodName)) ∈ lw_all := lw_g (lw_at lw_m1 106 rfl) rfl
theorem q125 : (Jvm.Cond.selects "CoreFinder" ({ cls := "CoreFinder", name := "core", desc := "(I)I" } : Jvm.MethodName) ({ cls := "CoreFinder", name := "core", desc := "(I)I" } : Jvm.MethodName)) ∈ lw_all := lw_g (lw_at lw_m1 107 rfl) rfl
theorem q126 : (Jvm.Cond.code ({ cls := "CoreFinder", name := "core", desc := "(I)I" } : Jvm.MethodName) prog_1_method_22_code (4 : Nat) (Option.some Jvm.ClassFile.FieldType.int)) ∈ lw_all := lw_g (lw_at lw_m1 108 rfl) rfl
theorem q128 : (Jvm.Cond.instanceMethod ({ cls := "CoreFinder", name := "repairs", desc := "()I" } : Jvm.MethodName)) ∈ lw_all := lw_g (lw_at lw_m1 110 rfl) rfl
theorem q129 : (Jvm.Cond.selects "CoreFinder" ({ cls := "CoreFinder", name := "repairs", desc := "()I" } : Jvm.MethodName) ({ cls := "CoreFinder", name := "repairs", desc := "()I" } : Jvm.MethodName)) ∈ lw_all := lw_g (lw_at lw_m1 111 rfl) rfl
theorem q130 : (Jvm.Cond.code ({ cls := "CoreFinder", name := "repairs", desc := "()I" } : Jvm.MethodName) prog_1_method_23_code (3 : Nat) (Option.some Jvm.ClassFile.FieldType.int)) ∈ lw_all := lw_g (lw_at lw_m1 112 rfl) rfl
theorem q131 : (Jvm.Cond.methodLink "CoreFinder" (76 : Nat) ({ cls := "CoreFinder", name := "isRepair", desc := "(I)Z" } : Jvm.MethodName)) ∈ lw_all := lw_g (lw_at lw_m1 113 rfl) rfl
theorem q132 : (Jvm.Cond.privateMethod ({ cls := "CoreFinder", name := "isRepair", desc := "(I)Z" } : Jvm.MethodName)) ∈ lw_tbl := lw_at lw_m1 114 rfl
theorem q133 : (Jvm.Cond.instanceMethod ({ cls := "CoreFinder", name := "isRepair", desc := "(I)Z" } : Jvm.MethodName)) ∈ lw_all := lw_g (lw_at lw_m1 115 rfl) rfl
theorem q134 : (Jvm.Cond.code ({ cls := "CoreFinder", name := "isRepair", desc := "(I)Z" } : Jvm.MethodName) prog_1_method_14_code (2 : Nat) (Option.some Jvm.ClassFile.FieldType.boolean)) ∈ lw_all := lw_g (lw_at lw_m1 116 rfl) rfl
theorem q136 : (Jvm.Cond.instanceMethod ({ cls := "CoreFinder", name := "repair", desc := "(I)I" } : Jvm.MethodName)) ∈ lw_all := lw_g (lw_at lw_m1 118 rfl) rfl
theorem q137 : (Jvm.Cond.selects "CoreFinder" ({ cls := "CoreFinder", name := "repair", desc := "(I)I" } : Jvm.MethodName) ({ cls := "CoreFinder", name := "repair", desc := "(I)I" } : Jvm.MethodName)) ∈ lw_all := lw_g (lw_at lw_m1 119 rfl) rfl
theorem q138 : (Jvm.Cond.code ({ cls := "CoreFinder", name := "repair", desc := "(I)I" } : Jvm.MethodName) prog_1_method_24_code (4 : Nat) (Option.some Jvm.ClassFile.FieldType.int)) ∈ lw_all := lw_g (lw_at lw_m1 120 rfl) rfl
theorem q140 : (Jvm.Cond.instanceMethod ({ cls := "CoreFinder", name := "guilty", desc := "()I" } : Jvm.MethodName)) ∈ lw_all := lw_g (lw_at lw_m1 122 rfl) rfl
theorem q141 : (Jvm.Cond.selects "CoreFinder" ({ cls := "CoreFinder", name := "guilty", desc := "()I" } : Jvm.MethodName) ({ cls := "CoreFinder", name := "guilty", desc := "()I" } : Jvm.MethodName)) ∈ lw_all := lw_g (lw_at lw_m1 123 rfl) rfl
theorem q142 : (Jvm.Cond.code ({ cls := "CoreFinder", name := "guilty", desc := "()I" } : Jvm.MethodName) prog_1_method_25_code (3 : Nat) (Option.some Jvm.ClassFile.FieldType.int)) ∈ lw_all := lw_g (lw_at lw_m1 124 rfl) rfl
theorem q144 : (Jvm.Cond.instanceMethod ({ cls := "CoreFinder", name := "central", desc := "()I" } : Jvm.MethodName)) ∈ lw_all := lw_g (lw_at lw_m1 126 rfl) rfl
theorem q145 : (Jvm.Cond.selects "CoreFinder" ({ cls := "CoreFinder", name := "central", desc := "()I" } : Jvm.MethodName) ({ cls := "CoreFinder", name := "central", desc := "()I" } : Jvm.MethodName)) ∈ lw_all := lw_g (lw_at lw_m1 127 rfl) rfl
theorem q146 : (Jvm.Cond.code ({ cls := "CoreFinder", name := "central", desc := "()I" } : Jvm.MethodName) prog_1_method_26_code (3 : Nat) (Option.some Jvm.ClassFile.FieldType.int)) ∈ lw_all := lw_g (lw_at lw_m1 128 rfl) rfl
theorem q148 : (Jvm.Cond.instanceMethod ({ cls := "CoreFinder", name := "smallestCore", desc := "()I" } : Jvm.MethodName)) ∈ lw_all := lw_g (lw_at lw_m1 130 rfl) rfl
theorem q149 : (Jvm.Cond.selects "CoreFinder" ({ cls := "CoreFinder", name := "smallestCore", desc := "()I" } : Jvm.MethodName) ({ cls := "CoreFinder", name := "smallestCore", desc := "()I" } : Jvm.MethodName)) ∈ lw_all := lw_g (lw_at lw_m1 131 rfl) rfl
theorem q150 : (Jvm.Cond.code ({ cls := "CoreFinder", name := "smallestCore", desc := "()I" } : Jvm.MethodName) prog_1_method_27_code (4 : Nat) (Option.some Jvm.ClassFile.FieldType.int)) ∈ lw_all := lw_g (lw_at lw_m1 132 rfl) rfl
theorem q151 : (Jvm.Cond.methodLink "CoreFinder" (79 : Nat) ({ cls := "CoreFinder", name := "ones", desc := "(I)I" } : Jvm.MethodName)) ∈ lw_all := lw_g (lw_at lw_m1 133 rfl) rfl
theorem q152 : (Jvm.Cond.static ({ cls := "CoreFinder", name := "ones", desc := "(I)I" } : Jvm.MethodName)) ∈ lw_all := lw_g (lw_at lw_m1 134 rfl) rfl
theorem q153 : (Jvm.Cond.code ({ cls := "CoreFinder", name := "ones", desc := "(I)I" } : Jvm.MethodName) prog_1_method_4_code (3 : Nat) (Option.some Jvm.ClassFile.FieldType.int)) ∈ lw_all := lw_g (lw_at lw_m1 135 rfl) rfl
theorem q155 : (Jvm.Cond.instanceMethod ({ cls := "CoreFinder", name := "mostTogether", desc := "()I" } : Jvm.MethodName)) ∈ lw_all := lw_g (lw_at lw_m1 137 rfl) rfl
theorem q156 : (Jvm.Cond.selects "CoreFinder" ({ cls := "CoreFinder", name := "mostTogether", desc := "()I" } : Jvm.MethodName) ({ cls := "CoreFinder", name := "mostTogether", desc := "()I" } : Jvm.MethodName)) ∈ lw_all := lw_g (lw_at lw_m1 138 rfl) rfl
theorem q157 : (Jvm.Cond.code ({ cls := "CoreFinder", name := "mostTogether", desc := "()I" } : Jvm.MethodName) prog_1_method_28_code (4 : Nat) (Option.some Jvm.ClassFile.FieldType.int)) ∈ lw_all := lw_g (lw_at lw_m1 139 rfl) rfl
theorem q159 : (Jvm.Cond.instanceMethod ({ cls := "CoreFinder", name := "follows", desc := "(II)Z" } : Jvm.MethodName)) ∈ lw_all := lw_g (lw_at lw_m1 141 rfl) rfl
theorem q160 : (Jvm.Cond.selects "CoreFinder" ({ cls := "CoreFinder", name := "follows", desc := "(II)Z" } : Jvm.MethodName) ({ cls := "CoreFinder", name := "follows", desc := "(II)Z" } : Jvm.MethodName)) ∈ lw_all := lw_g (lw_at lw_m1 142 rfl) rfl
theorem q161 : (Jvm.Cond.code ({ cls := "CoreFinder", name := "follows", desc := "(II)Z" } : Jvm.MethodName) prog_1_method_29_code (3 : Nat) (Option.some Jvm.ClassFile.FieldType.boolean)) ∈ lw_all := lw_g (lw_at lw_m1 143 rfl) rfl
theorem in_X0 : ∀ w ∈ wsX00, w ∈ lw_all := lw_in wsX00 [36, 38, 40, 42, 44, 46, 48] (by decide +kernel) (by decide +kernel)
/-! CoreFinderModel -/
def RX1 : String := "CoreFinderModel"
def TX1 : u_T := fun k => match k with
  | 0 => ("CoreFinderModel", "there", "[Z", false)
  | 1 => ("CoreFinderModel", "yes", "[I", false)
  | 2 => ("CoreFinderModel", "no", "[I", false)
  | _ => ("CoreFinderModel", "fine", "[Z", false)
def tyX1 : Nat → FieldType := fun k => match k with
  | 0 => .array .boolean
  | 1 => .array .int
  | 2 => .array .int
  | _ => .array .boolean
abbrev wsX10 : List Cond := u_ws RX1 TX1 4
theorem nmX1 : ∀ a, a < 4 → ∀ b, b < 4 → a ≠ b → (TX1 a).2.1 ≠ (TX1 b).2.1 := by decide +kernel
theorem tyX1_ok : ∀ k, k < 4 → parseFieldDescriptor (TX1 k).2.2.1 = some (tyX1 k) := by decide +kernel
abbrev cX1_init : ByteArray := prog_3_method_1_code
def yX1_init : MethodName := ⟨RX1, "<init>", "()V"⟩
abbrev cX1_add : ByteArray := prog_3_method_3_code
def yX1_add : MethodName := ⟨RX1, "add", "(II)I"⟩
abbrev cX1_letters : ByteArray := prog_3_method_2_code
def yX1_letters : MethodName := ⟨RX1, "letters", "(I)Z"⟩
abbrev cX1_remove : ByteArray := prog_3_method_4_code
def yX1_remove : MethodName := ⟨RX1, "remove", "(I)Z"⟩
abbrev cX1_clauses : ByteArray := prog_3_method_5_code
def yX1_clauses : MethodName := ⟨RX1, "clauses", "()I"⟩
abbrev cX1_consistent : ByteArray := prog_3_method_8_code
def yX1_consistent : MethodName := ⟨RX1, "consistent", "(I)Z"⟩
abbrev cX1_witness : ByteArray := prog_3_method_9_code
def yX1_witness : MethodName := ⟨RX1, "witness", "(I)I"⟩
abbrev cX1_allHold : ByteArray := prog_3_method_7_code
def yX1_allHold : MethodName := ⟨RX1, "allHold", "(II)Z"⟩
abbrev cX1_holds : ByteArray := prog_3_method_6_code
def yX1_holds : MethodName := ⟨RX1, "holds", "(III)Z"⟩
abbrev cX1_cores : ByteArray := prog_3_method_13_code
def yX1_cores : MethodName := ⟨RX1, "cores", "()I"⟩
abbrev cX1_work : ByteArray := prog_3_method_10_code
def yX1_work : MethodName := ⟨RX1, "work", "()V"⟩
abbrev cX1_isCore : ByteArray := prog_3_method_11_code
def yX1_isCore : MethodName := ⟨RX1, "isCore", "(I)Z"⟩
abbrev cX1_core : ByteArray := prog_3_method_14_code
def yX1_core : MethodName := ⟨RX1, "core", "(I)I"⟩
abbrev cX1_repairs : ByteArray := prog_3_method_15_code
def yX1_repairs : MethodName := ⟨RX1, "repairs", "()I"⟩
abbrev cX1_isRepair : ByteArray := prog_3_method_12_code
def yX1_isRepair : MethodName := ⟨RX1, "isRepair", "(I)Z"⟩
abbrev cX1_repair : ByteArray := prog_3_method_16_code
def yX1_repair : MethodName := ⟨RX1, "repair", "(I)I"⟩
abbrev cX1_guilty : ByteArray := prog_3_method_17_code
def yX1_guilty : MethodName := ⟨RX1, "guilty", "()I"⟩
abbrev cX1_central : ByteArray := prog_3_method_18_code
def yX1_central : MethodName := ⟨RX1, "central", "()I"⟩
abbrev cX1_smallestCore : ByteArray := prog_3_method_20_code
def yX1_smallestCore : MethodName := ⟨RX1, "smallestCore", "()I"⟩
abbrev cX1_ones : ByteArray := prog_3_method_19_code
def yX1_ones : MethodName := ⟨RX1, "ones", "(I)I"⟩
abbrev cX1_mostTogether : ByteArray := prog_3_method_21_code
def yX1_mostTogether : MethodName := ⟨RX1, "mostTogether", "()I"⟩
abbrev cX1_follows : ByteArray := prog_3_method_22_code
def yX1_follows : MethodName := ⟨RX1, "follows", "(II)Z"⟩
theorem q20 : (Jvm.Cond.initialized "CoreFinderModel") ∈ lw_all := lw_g (lw_at lw_m1 2 rfl) rfl
theorem q163 : (Jvm.Cond.instantiable "CoreFinderModel" (4 : Nat)) ∈ lw_all := lw_g (lw_at lw_m1 145 rfl) rfl
theorem q165 : (Jvm.Cond.instanceMethod ({ cls := "CoreFinderModel", name := "<init>", desc := "()V" } : Jvm.MethodName)) ∈ lw_all := lw_g (lw_at lw_m1 147 rfl) rfl
theorem q166 : (Jvm.Cond.code ({ cls := "CoreFinderModel", name := "<init>", desc := "()V" } : Jvm.MethodName) prog_3_method_1_code (1 : Nat) (Option.none : Option Jvm.ClassFile.FieldType)) ∈ lw_all := lw_g (lw_at lw_m1 148 rfl) rfl
theorem q167 : (Jvm.Cond.methodLink "CoreFinderModel" (1 : Nat) ({ cls := "java/lang/Object", name := "<init>", desc := "()V" } : Jvm.MethodName)) ∈ lw_all := lw_g (lw_at lw_m1 149 rfl) rfl
theorem q168 : (Jvm.Cond.fieldLink "CoreFinderModel" (7 : Nat) "CoreFinderModel" "there" "[Z") ∈ lw_all := lw_g (lw_at lw_m1 150 rfl) rfl
theorem q169 : (Jvm.Cond.fieldLink "CoreFinderModel" (13 : Nat) "CoreFinderModel" "yes" "[I") ∈ lw_all := lw_g (lw_at lw_m1 151 rfl) rfl
theorem q170 : (Jvm.Cond.fieldLink "CoreFinderModel" (17 : Nat) "CoreFinderModel" "no" "[I") ∈ lw_all := lw_g (lw_at lw_m1 152 rfl) rfl
theorem q171 : (Jvm.Cond.fieldLink "CoreFinderModel" (20 : Nat) "CoreFinderModel" "fine" "[Z") ∈ lw_all := lw_g (lw_at lw_m1 153 rfl) rfl
theorem q172 : (Jvm.Cond.lays "CoreFinderModel" "CoreFinderModel" "there" "[Z") ∈ lw_all := lw_g (lw_at lw_m1 154 rfl) rfl
theorem q173 : (Jvm.Cond.soleField "CoreFinderModel" "there") ∈ lw_all := lw_g (lw_at lw_m1 155 rfl) rfl
theorem q174 : (Jvm.Cond.lays "CoreFinderModel" "CoreFinderModel" "yes" "[I") ∈ lw_all := lw_g (lw_at lw_m1 156 rfl) rfl
theorem q175 : (Jvm.Cond.soleField "CoreFinderModel" "yes") ∈ lw_all := lw_g (lw_at lw_m1 157 rfl) rfl
theorem q176 : (Jvm.Cond.lays "CoreFinderModel" "CoreFinderModel" "no" "[I") ∈ lw_all := lw_g (lw_at lw_m1 158 rfl) rfl
theorem q177 : (Jvm.Cond.soleField "CoreFinderModel" "no") ∈ lw_all := lw_g (lw_at lw_m1 159 rfl) rfl
theorem q178 : (Jvm.Cond.lays "CoreFinderModel" "CoreFinderModel" "fine" "[Z") ∈ lw_all := lw_g (lw_at lw_m1 160 rfl) rfl
theorem q179 : (Jvm.Cond.soleField "CoreFinderModel" "fine") ∈ lw_all := lw_g (lw_at lw_m1 161 rfl) rfl
theorem q180 : (Jvm.Cond.superclass "CoreFinderModel" "java/lang/Object") ∈ lw_all := lw_g (lw_at lw_m1 162 rfl) rfl
theorem q184 : (Jvm.Cond.instanceMethod ({ cls := "CoreFinderModel", name := "add", desc := "(II)I" } : Jvm.MethodName)) ∈ lw_all := lw_g (lw_at lw_m1 166 rfl) rfl
theorem q185 : (Jvm.Cond.selects "CoreFinderModel" ({ cls := "CoreFinderModel", name := "add", desc := "(II)I" } : Jvm.MethodName) ({ cls := "CoreFinderModel", name := "add", desc := "(II)I" } : Jvm.MethodName)) ∈ lw_all := lw_g (lw_at lw_m1 167 rfl) rfl
theorem q186 : (Jvm.Cond.code ({ cls := "CoreFinderModel", name := "add", desc := "(II)I" } : Jvm.MethodName) prog_3_method_3_code (4 : Nat) (Option.some Jvm.ClassFile.FieldType.int)) ∈ lw_all := lw_g (lw_at lw_m1 168 rfl) rfl
theorem q187 : (Jvm.Cond.methodLink "CoreFinderModel" (23 : Nat) ({ cls := "CoreFinderModel", name := "letters", desc := "(I)Z" } : Jvm.MethodName)) ∈ lw_all := lw_g (lw_at lw_m1 169 rfl) rfl
theorem q188 : (Jvm.Cond.privateMethod ({ cls := "CoreFinderModel", name := "letters", desc := "(I)Z" } : Jvm.MethodName)) ∈ lw_tbl := lw_at lw_m1 170 rfl
theorem q189 : (Jvm.Cond.instanceMethod ({ cls := "CoreFinderModel", name := "letters", desc := "(I)Z" } : Jvm.MethodName)) ∈ lw_all := lw_g (lw_at lw_m1 171 rfl) rfl
theorem q190 : (Jvm.Cond.code ({ cls := "CoreFinderModel", name := "letters", desc := "(I)Z" } : Jvm.MethodName) prog_3_method_2_code (2 : Nat) (Option.some Jvm.ClassFile.FieldType.boolean)) ∈ lw_all := lw_g (lw_at lw_m1 172 rfl) rfl
theorem q192 : (Jvm.Cond.instanceMethod ({ cls := "CoreFinderModel", name := "remove", desc := "(I)Z" } : Jvm.MethodName)) ∈ lw_all := lw_g (lw_at lw_m1 174 rfl) rfl
theorem q193 : (Jvm.Cond.selects "CoreFinderModel" ({ cls := "CoreFinderModel", name := "remove", desc := "(I)Z" } : Jvm.MethodName) ({ cls := "CoreFinderModel", name := "remove", desc := "(I)Z" } : Jvm.MethodName)) ∈ lw_all := lw_g (lw_at lw_m1 175 rfl) rfl
theorem q194 : (Jvm.Cond.code ({ cls := "CoreFinderModel", name := "remove", desc := "(I)Z" } : Jvm.MethodName) prog_3_method_4_code (2 : Nat) (Option.some Jvm.ClassFile.FieldType.boolean)) ∈ lw_all := lw_g (lw_at lw_m1 176 rfl) rfl
theorem q196 : (Jvm.Cond.instanceMethod ({ cls := "CoreFinderModel", name := "clauses", desc := "()I" } : Jvm.MethodName)) ∈ lw_all := lw_g (lw_at lw_m1 178 rfl) rfl
theorem q197 : (Jvm.Cond.selects "CoreFinderModel" ({ cls := "CoreFinderModel", name := "clauses", desc := "()I" } : Jvm.MethodName) ({ cls := "CoreFinderModel", name := "clauses", desc := "()I" } : Jvm.MethodName)) ∈ lw_all := lw_g (lw_at lw_m1 179 rfl) rfl
theorem q198 : (Jvm.Cond.code ({ cls := "CoreFinderModel", name := "clauses", desc := "()I" } : Jvm.MethodName) prog_3_method_5_code (3 : Nat) (Option.some Jvm.ClassFile.FieldType.int)) ∈ lw_all := lw_g (lw_at lw_m1 180 rfl) rfl
theorem q200 : (Jvm.Cond.instanceMethod ({ cls := "CoreFinderModel", name := "consistent", desc := "(I)Z" } : Jvm.MethodName)) ∈ lw_all := lw_g (lw_at lw_m1 182 rfl) rfl
theorem q201 : (Jvm.Cond.selects "CoreFinderModel" ({ cls := "CoreFinderModel", name := "consistent", desc := "(I)Z" } : Jvm.MethodName) ({ cls := "CoreFinderModel", name := "consistent", desc := "(I)Z" } : Jvm.MethodName)) ∈ lw_all := lw_g (lw_at lw_m1 183 rfl) rfl
theorem q202 : (Jvm.Cond.code ({ cls := "CoreFinderModel", name := "consistent", desc := "(I)Z" } : Jvm.MethodName) prog_3_method_8_code (2 : Nat) (Option.some Jvm.ClassFile.FieldType.boolean)) ∈ lw_all := lw_g (lw_at lw_m1 184 rfl) rfl
theorem q203 : (Jvm.Cond.methodLink "CoreFinderModel" (31 : Nat) ({ cls := "CoreFinderModel", name := "witness", desc := "(I)I" } : Jvm.MethodName)) ∈ lw_all := lw_g (lw_at lw_m1 185 rfl) rfl
theorem q204 : (Jvm.Cond.instanceMethod ({ cls := "CoreFinderModel", name := "witness", desc := "(I)I" } : Jvm.MethodName)) ∈ lw_all := lw_g (lw_at lw_m1 186 rfl) rfl
theorem q205 : (Jvm.Cond.selects "CoreFinderModel" ({ cls := "CoreFinderModel", name := "witness", desc := "(I)I" } : Jvm.MethodName) ({ cls := "CoreFinderModel", name := "witness", desc := "(I)I" } : Jvm.MethodName)) ∈ lw_all := lw_g (lw_at lw_m1 187 rfl) rfl
theorem q206 : (Jvm.Cond.code ({ cls := "CoreFinderModel", name := "witness", desc := "(I)I" } : Jvm.MethodName) prog_3_method_9_code (3 : Nat) (Option.some Jvm.ClassFile.FieldType.int)) ∈ lw_all := lw_g (lw_at lw_m1 188 rfl) rfl
theorem q207 : (Jvm.Cond.methodLink "CoreFinderModel" (35 : Nat) ({ cls := "CoreFinderModel", name := "allHold", desc := "(II)Z" } : Jvm.MethodName)) ∈ lw_all := lw_g (lw_at lw_m1 189 rfl) rfl
theorem q208 : (Jvm.Cond.privateMethod ({ cls := "CoreFinderModel", name := "allHold", desc := "(II)Z" } : Jvm.MethodName)) ∈ lw_tbl := lw_at lw_m1 190 rfl
theorem q209 : (Jvm.Cond.instanceMethod ({ cls := "CoreFinderModel", name := "allHold", desc := "(II)Z" } : Jvm.MethodName)) ∈ lw_all := lw_g (lw_at lw_m1 191 rfl) rfl
theorem q210 : (Jvm.Cond.code ({ cls := "CoreFinderModel", name := "allHold", desc := "(II)Z" } : Jvm.MethodName) prog_3_method_7_code (5 : Nat) (Option.some Jvm.ClassFile.FieldType.boolean)) ∈ lw_all := lw_g (lw_at lw_m1 192 rfl) rfl
theorem q211 : (Jvm.Cond.methodLink "CoreFinderModel" (27 : Nat) ({ cls := "CoreFinderModel", name := "holds", desc := "(III)Z" } : Jvm.MethodName)) ∈ lw_all := lw_g (lw_at lw_m1 193 rfl) rfl
theorem q212 : (Jvm.Cond.privateMethod ({ cls := "CoreFinderModel", name := "holds", desc := "(III)Z" } : Jvm.MethodName)) ∈ lw_tbl := lw_at lw_m1 194 rfl
theorem q213 : (Jvm.Cond.instanceMethod ({ cls := "CoreFinderModel", name := "holds", desc := "(III)Z" } : Jvm.MethodName)) ∈ lw_all := lw_g (lw_at lw_m1 195 rfl) rfl
theorem q214 : (Jvm.Cond.code ({ cls := "CoreFinderModel", name := "holds", desc := "(III)Z" } : Jvm.MethodName) prog_3_method_6_code (4 : Nat) (Option.some Jvm.ClassFile.FieldType.boolean)) ∈ lw_all := lw_g (lw_at lw_m1 196 rfl) rfl
theorem q217 : (Jvm.Cond.instanceMethod ({ cls := "CoreFinderModel", name := "cores", desc := "()I" } : Jvm.MethodName)) ∈ lw_all := lw_g (lw_at lw_m1 199 rfl) rfl
theorem q218 : (Jvm.Cond.selects "CoreFinderModel" ({ cls := "CoreFinderModel", name := "cores", desc := "()I" } : Jvm.MethodName) ({ cls := "CoreFinderModel", name := "cores", desc := "()I" } : Jvm.MethodName)) ∈ lw_all := lw_g (lw_at lw_m1 200 rfl) rfl
theorem q219 : (Jvm.Cond.code ({ cls := "CoreFinderModel", name := "cores", desc := "()I" } : Jvm.MethodName) prog_3_method_13_code (3 : Nat) (Option.some Jvm.ClassFile.FieldType.int)) ∈ lw_all := lw_g (lw_at lw_m1 201 rfl) rfl
theorem q220 : (Jvm.Cond.methodLink "CoreFinderModel" (46 : Nat) ({ cls := "CoreFinderModel", name := "work", desc := "()V" } : Jvm.MethodName)) ∈ lw_all := lw_g (lw_at lw_m1 202 rfl) rfl
theorem q221 : (Jvm.Cond.privateMethod ({ cls := "CoreFinderModel", name := "work", desc := "()V" } : Jvm.MethodName)) ∈ lw_tbl := lw_at lw_m1 203 rfl
theorem q222 : (Jvm.Cond.instanceMethod ({ cls := "CoreFinderModel", name := "work", desc := "()V" } : Jvm.MethodName)) ∈ lw_all := lw_g (lw_at lw_m1 204 rfl) rfl
theorem q223 : (Jvm.Cond.code ({ cls := "CoreFinderModel", name := "work", desc := "()V" } : Jvm.MethodName) prog_3_method_10_code (2 : Nat) (Option.none : Option Jvm.ClassFile.FieldType)) ∈ lw_all := lw_g (lw_at lw_m1 205 rfl) rfl
theorem q224 : (Jvm.Cond.methodLink "CoreFinderModel" (39 : Nat) ({ cls := "CoreFinderModel", name := "consistent", desc := "(I)Z" } : Jvm.MethodName)) ∈ lw_all := lw_g (lw_at lw_m1 206 rfl) rfl
theorem q225 : (Jvm.Cond.methodLink "CoreFinderModel" (49 : Nat) ({ cls := "CoreFinderModel", name := "isCore", desc := "(I)Z" } : Jvm.MethodName)) ∈ lw_all := lw_g (lw_at lw_m1 207 rfl) rfl
theorem q226 : (Jvm.Cond.privateMethod ({ cls := "CoreFinderModel", name := "isCore", desc := "(I)Z" } : Jvm.MethodName)) ∈ lw_tbl := lw_at lw_m1 208 rfl
theorem q227 : (Jvm.Cond.instanceMethod ({ cls := "CoreFinderModel", name := "isCore", desc := "(I)Z" } : Jvm.MethodName)) ∈ lw_all := lw_g (lw_at lw_m1 209 rfl) rfl
theorem q228 : (Jvm.Cond.code ({ cls := "CoreFinderModel", name := "isCore", desc := "(I)Z" } : Jvm.MethodName) prog_3_method_11_code (4 : Nat) (Option.some Jvm.ClassFile.FieldType.boolean)) ∈ lw_all := lw_g (lw_at lw_m1 210 rfl) rfl
theorem q229 : (Jvm.Cond.methodLink "CoreFinderModel" (42 : Nat) ({ cls := "CoreFinderModel", name := "clauses", desc := "()I" } : Jvm.MethodName)) ∈ lw_all := lw_g (lw_at lw_m1 211 rfl) rfl
theorem q231 : (Jvm.Cond.instanceMethod ({ cls := "CoreFinderModel", name := "core", desc := "(I)I" } : Jvm.MethodName)) ∈ lw_all := lw_g (lw_at lw_m1 213 rfl) rfl
theorem q232 : (Jvm.Cond.selects "CoreFinderModel" ({ cls := "CoreFinderModel", name := "core", desc := "(I)I" } : Jvm.MethodName) ({ cls := "CoreFinderModel", name := "core", desc := "(I)I" } : Jvm.MethodName)) ∈ lw_all := lw_g (lw_at lw_m1 214 rfl) rfl
theorem q233 : (Jvm.Cond.code ({ cls := "CoreFinderModel", name := "core", desc := "(I)I" } : Jvm.MethodName) prog_3_method_14_code (4 : Nat) (Option.some Jvm.ClassFile.FieldType.int)) ∈ lw_all := lw_g (lw_at lw_m1 215 rfl) rfl
theorem q235 : (Jvm.Cond.instanceMethod ({ cls := "CoreFinderModel", name := "repairs", desc := "()I" } : Jvm.MethodName)) ∈ lw_all := lw_g (lw_at lw_m1 217 rfl) rfl
theorem q236 : (Jvm.Cond.selects "CoreFinderModel" ({ cls := "CoreFinderModel", name := "repairs", desc := "()I" } : Jvm.MethodName) ({ cls := "CoreFinderModel", name := "repairs", desc := "()I" } : Jvm.MethodName)) ∈ lw_all := lw_g (lw_at lw_m1 218 rfl) rfl
theorem q237 : (Jvm.Cond.code ({ cls := "CoreFinderModel", name := "repairs", desc := "()I" } : Jvm.MethodName) prog_3_method_15_code (3 : Nat) (Option.some Jvm.ClassFile.FieldType.int)) ∈ lw_all := lw_g (lw_at lw_m1 219 rfl) rfl
theorem q238 : (Jvm.Cond.methodLink "CoreFinderModel" (52 : Nat) ({ cls := "CoreFinderModel", name := "isRepair", desc := "(I)Z" } : Jvm.MethodName)) ∈ lw_all := lw_g (lw_at lw_m1 220 rfl) rfl
theorem q239 : (Jvm.Cond.privateMethod ({ cls := "CoreFinderModel", name := "isRepair", desc := "(I)Z" } : Jvm.MethodName)) ∈ lw_tbl := lw_at lw_m1 221 rfl
theorem q240 : (Jvm.Cond.instanceMethod ({ cls := "CoreFinderModel", name := "isRepair", desc := "(I)Z" } : Jvm.MethodName)) ∈ lw_all := lw_g (lw_at lw_m1 222 rfl) rfl
theorem q241 : (Jvm.Cond.code ({ cls := "CoreFinderModel", name := "isRepair", desc := "(I)Z" } : Jvm.MethodName) prog_3_method_12_code (5 : Nat) (Option.some Jvm.ClassFile.FieldType.boolean)) ∈ lw_all := lw_g (lw_at lw_m1 223 rfl) rfl
theorem q243 : (Jvm.Cond.instanceMethod ({ cls := "CoreFinderModel", name := "repair", desc := "(I)I" } : Jvm.MethodName)) ∈ lw_all := lw_g (lw_at lw_m1 225 rfl) rfl
theorem q244 : (Jvm.Cond.selects "CoreFinderModel" ({ cls := "CoreFinderModel", name := "repair", desc := "(I)I" } : Jvm.MethodName) ({ cls := "CoreFinderModel", name := "repair", desc := "(I)I" } : Jvm.MethodName)) ∈ lw_all := lw_g (lw_at lw_m1 226 rfl) rfl
theorem q245 : (Jvm.Cond.code ({ cls := "CoreFinderModel", name := "repair", desc := "(I)I" } : Jvm.MethodName) prog_3_method_16_code (4 : Nat) (Option.some Jvm.ClassFile.FieldType.int)) ∈ lw_all := lw_g (lw_at lw_m1 227 rfl) rfl
theorem q247 : (Jvm.Cond.instanceMethod ({ cls := "CoreFinderModel", name := "guilty", desc := "()I" } : Jvm.MethodName)) ∈ lw_all := lw_g (lw_at lw_m1 229 rfl) rfl
theorem q248 : (Jvm.Cond.selects "CoreFinderModel" ({ cls := "CoreFinderModel", name := "guilty", desc := "()I" } : Jvm.MethodName) ({ cls := "CoreFinderModel", name := "guilty", desc := "()I" } : Jvm.MethodName)) ∈ lw_all := lw_g (lw_at lw_m1 230 rfl) rfl
theorem q249 : (Jvm.Cond.code ({ cls := "CoreFinderModel", name := "guilty", desc := "()I" } : Jvm.MethodName) prog_3_method_17_code (3 : Nat) (Option.some Jvm.ClassFile.FieldType.int)) ∈ lw_all := lw_g (lw_at lw_m1 231 rfl) rfl
theorem q251 : (Jvm.Cond.instanceMethod ({ cls := "CoreFinderModel", name := "central", desc := "()I" } : Jvm.MethodName)) ∈ lw_all := lw_g (lw_at lw_m1 233 rfl) rfl
theorem q252 : (Jvm.Cond.selects "CoreFinderModel" ({ cls := "CoreFinderModel", name := "central", desc := "()I" } : Jvm.MethodName) ({ cls := "CoreFinderModel", name := "central", desc := "()I" } : Jvm.MethodName)) ∈ lw_all := lw_g (lw_at lw_m1 234 rfl) rfl
theorem q253 : (Jvm.Cond.code ({ cls := "CoreFinderModel", name := "central", desc := "()I" } : Jvm.MethodName) prog_3_method_18_code (3 : Nat) (Option.some Jvm.ClassFile.FieldType.int)) ∈ lw_all := lw_g (lw_at lw_m1 235 rfl) rfl
theorem q255 : (Jvm.Cond.instanceMethod ({ cls := "CoreFinderModel", name := "smallestCore", desc := "()I" } : Jvm.MethodName)) ∈ lw_all := lw_g (lw_at lw_m1 237 rfl) rfl
theorem q256 : (Jvm.Cond.selects "CoreFinderModel" ({ cls := "CoreFinderModel", name := "smallestCore", desc := "()I" } : Jvm.MethodName) ({ cls := "CoreFinderModel", name := "smallestCore", desc := "()I" } : Jvm.MethodName)) ∈ lw_all := lw_g (lw_at lw_m1 238 rfl) rfl
theorem q257 : (Jvm.Cond.code ({ cls := "CoreFinderModel", name := "smallestCore", desc := "()I" } : Jvm.MethodName) prog_3_method_20_code (4 : Nat) (Option.some Jvm.ClassFile.FieldType.int)) ∈ lw_all := lw_g (lw_at lw_m1 239 rfl) rfl
theorem q258 : (Jvm.Cond.methodLink "CoreFinderModel" (55 : Nat) ({ cls := "CoreFinderModel", name := "ones", desc := "(I)I" } : Jvm.MethodName)) ∈ lw_all := lw_g (lw_at lw_m2 0 rfl) rfl
theorem q259 : (Jvm.Cond.privateMethod ({ cls := "CoreFinderModel", name := "ones", desc := "(I)I" } : Jvm.MethodName)) ∈ lw_tbl := lw_at lw_m2 1 rfl
theorem q260 : (Jvm.Cond.instanceMethod ({ cls := "CoreFinderModel", name := "ones", desc := "(I)I" } : Jvm.MethodName)) ∈ lw_all := lw_g (lw_at lw_m2 2 rfl) rfl
theorem q261 : (Jvm.Cond.code ({ cls := "CoreFinderModel", name := "ones", desc := "(I)I" } : Jvm.MethodName) prog_3_method_19_code (4 : Nat) (Option.some Jvm.ClassFile.FieldType.int)) ∈ lw_all := lw_g (lw_at lw_m2 3 rfl) rfl
theorem q263 : (Jvm.Cond.instanceMethod ({ cls := "CoreFinderModel", name := "mostTogether", desc := "()I" } : Jvm.MethodName)) ∈ lw_all := lw_g (lw_at lw_m2 5 rfl) rfl
theorem q264 : (Jvm.Cond.selects "CoreFinderModel" ({ cls := "CoreFinderModel", name := "mostTogether", desc := "()I" } : Jvm.MethodName) ({ cls := "CoreFinderModel", name := "mostTogether", desc := "()I" } : Jvm.MethodName)) ∈ lw_all := lw_g (lw_at lw_m2 6 rfl) rfl
theorem q265 : (Jvm.Cond.code ({ cls := "CoreFinderModel", name := "mostTogether", desc := "()I" } : Jvm.MethodName) prog_3_method_21_code (4 : Nat) (Option.some Jvm.ClassFile.FieldType.int)) ∈ lw_all := lw_g (lw_at lw_m2 7 rfl) rfl
theorem q267 : (Jvm.Cond.instanceMethod ({ cls := "CoreFinderModel", name := "follows", desc := "(II)Z" } : Jvm.MethodName)) ∈ lw_all := lw_g (lw_at lw_m2 9 rfl) rfl
theorem q268 : (Jvm.Cond.selects "CoreFinderModel" ({ cls := "CoreFinderModel", name := "follows", desc := "(II)Z" } : Jvm.MethodName) ({ cls := "CoreFinderModel", name := "follows", desc := "(II)Z" } : Jvm.MethodName)) ∈ lw_all := lw_g (lw_at lw_m2 10 rfl) rfl
theorem q269 : (Jvm.Cond.code ({ cls := "CoreFinderModel", name := "follows", desc := "(II)Z" } : Jvm.MethodName) prog_3_method_22_code (5 : Nat) (Option.some Jvm.ClassFile.FieldType.boolean)) ∈ lw_all := lw_g (lw_at lw_m2 11 rfl) rfl
theorem in_X1 : ∀ w ∈ wsX10, w ∈ lw_all := lw_in wsX10 [172, 174, 176, 178] (by decide +kernel) (by decide +kernel)
/-! java/lang/Object -/
def RJ0 : String := "java/lang/Object"
abbrev cJ0_init : ByteArray := object_method_1_code
def yJ0_init : MethodName := ⟨RJ0, "<init>", "()V"⟩
theorem q27 : (Jvm.Cond.instanceMethod ({ cls := "java/lang/Object", name := "<init>", desc := "()V" } : Jvm.MethodName)) ∈ lw_all := lw_g (lw_at lw_m1 9 rfl) rfl
theorem q28 : (Jvm.Cond.code ({ cls := "java/lang/Object", name := "<init>", desc := "()V" } : Jvm.MethodName) object_method_1_code (1 : Nat) (Option.none : Option Jvm.ClassFile.FieldType)) ∈ lw_all := lw_g (lw_at lw_m1 10 rfl) rfl
/-! the law's own entry -/
abbrev cL_law : ByteArray := code
theorem q51 : (Jvm.Cond.arrayClass Jvm.ClassFile.FieldType.byte) ∈ lw_all := lw_g (lw_at lw_m1 33 rfl) rfl
theorem q52 : (Jvm.Cond.arrayClass Jvm.ClassFile.FieldType.long) ∈ lw_all := lw_g (lw_at lw_m1 34 rfl) rfl
theorem q181 : (Jvm.Cond.arrayClass Jvm.ClassFile.FieldType.boolean) ∈ lw_all := lw_g (lw_at lw_m1 163 rfl) rfl
theorem q182 : (Jvm.Cond.arrayClass Jvm.ClassFile.FieldType.int) ∈ lw_all := lw_g (lw_at lw_m1 164 rfl) rfl
theorem q18 : (Jvm.Cond.initialized "CoreFinderLaw") ∈ lw_all := lw_g (lw_at lw_m1 0 rfl) rfl
theorem q21 : (Jvm.Cond.classLink "CoreFinderLaw" (7 : Nat) "CoreFinder") ∈ lw_all := lw_g (lw_at lw_m1 3 rfl) rfl
theorem q23 : (Jvm.Cond.methodLink "CoreFinderLaw" (9 : Nat) ({ cls := "CoreFinder", name := "<init>", desc := "()V" } : Jvm.MethodName)) ∈ lw_all := lw_g (lw_at lw_m1 5 rfl) rfl
theorem q53 : (Jvm.Cond.methodLink "CoreFinderLaw" (13 : Nat) ({ cls := "CoreFinder", name := "add", desc := "(II)I" } : Jvm.MethodName)) ∈ lw_all := lw_g (lw_at lw_m1 35 rfl) rfl
theorem q64 : (Jvm.Cond.methodLink "CoreFinderLaw" (18 : Nat) ({ cls := "CoreFinder", name := "remove", desc := "(I)Z" } : Jvm.MethodName)) ∈ lw_all := lw_g (lw_at lw_m1 46 rfl) rfl
theorem q68 : (Jvm.Cond.methodLink "CoreFinderLaw" (23 : Nat) ({ cls := "CoreFinder", name := "clauses", desc := "()I" } : Jvm.MethodName)) ∈ lw_all := lw_g (lw_at lw_m1 50 rfl) rfl
theorem q72 : (Jvm.Cond.methodLink "CoreFinderLaw" (28 : Nat) ({ cls := "CoreFinder", name := "consistent", desc := "(I)Z" } : Jvm.MethodName)) ∈ lw_all := lw_g (lw_at lw_m1 54 rfl) rfl
theorem q88 : (Jvm.Cond.methodLink "CoreFinderLaw" (32 : Nat) ({ cls := "CoreFinder", name := "witness", desc := "(I)I" } : Jvm.MethodName)) ∈ lw_all := lw_g (lw_at lw_m1 70 rfl) rfl
theorem q92 : (Jvm.Cond.methodLink "CoreFinderLaw" (37 : Nat) ({ cls := "CoreFinder", name := "cores", desc := "()I" } : Jvm.MethodName)) ∈ lw_all := lw_g (lw_at lw_m1 74 rfl) rfl
theorem q123 : (Jvm.Cond.methodLink "CoreFinderLaw" (41 : Nat) ({ cls := "CoreFinder", name := "core", desc := "(I)I" } : Jvm.MethodName)) ∈ lw_all := lw_g (lw_at lw_m1 105 rfl) rfl
theorem q127 : (Jvm.Cond.methodLink "CoreFinderLaw" (45 : Nat) ({ cls := "CoreFinder", name := "repairs", desc := "()I" } : Jvm.MethodName)) ∈ lw_all := lw_g (lw_at lw_m1 109 rfl) rfl
theorem q135 : (Jvm.Cond.methodLink "CoreFinderLaw" (49 : Nat) ({ cls := "CoreFinder", name := "repair", desc := "(I)I" } : Jvm.MethodName)) ∈ lw_all := lw_g (lw_at lw_m1 117 rfl) rfl
theorem q139 : (Jvm.Cond.methodLink "CoreFinderLaw" (53 : Nat) ({ cls := "CoreFinder", name := "guilty", desc := "()I" } : Jvm.MethodName)) ∈ lw_all := lw_g (lw_at lw_m1 121 rfl) rfl
theorem q143 : (Jvm.Cond.methodLink "CoreFinderLaw" (57 : Nat) ({ cls := "CoreFinder", name := "central", desc := "()I" } : Jvm.MethodName)) ∈ lw_all := lw_g (lw_at lw_m1 125 rfl) rfl
theorem q147 : (Jvm.Cond.methodLink "CoreFinderLaw" (61 : Nat) ({ cls := "CoreFinder", name := "smallestCore", desc := "()I" } : Jvm.MethodName)) ∈ lw_all := lw_g (lw_at lw_m1 129 rfl) rfl
theorem q154 : (Jvm.Cond.methodLink "CoreFinderLaw" (65 : Nat) ({ cls := "CoreFinder", name := "mostTogether", desc := "()I" } : Jvm.MethodName)) ∈ lw_all := lw_g (lw_at lw_m1 136 rfl) rfl
theorem q158 : (Jvm.Cond.methodLink "CoreFinderLaw" (69 : Nat) ({ cls := "CoreFinder", name := "follows", desc := "(II)Z" } : Jvm.MethodName)) ∈ lw_all := lw_g (lw_at lw_m1 140 rfl) rfl
theorem q162 : (Jvm.Cond.classLink "CoreFinderLaw" (10 : Nat) "CoreFinderModel") ∈ lw_all := lw_g (lw_at lw_m1 144 rfl) rfl
theorem q164 : (Jvm.Cond.methodLink "CoreFinderLaw" (12 : Nat) ({ cls := "CoreFinderModel", name := "<init>", desc := "()V" } : Jvm.MethodName)) ∈ lw_all := lw_g (lw_at lw_m1 146 rfl) rfl
theorem q183 : (Jvm.Cond.methodLink "CoreFinderLaw" (17 : Nat) ({ cls := "CoreFinderModel", name := "add", desc := "(II)I" } : Jvm.MethodName)) ∈ lw_all := lw_g (lw_at lw_m1 165 rfl) rfl
theorem q191 : (Jvm.Cond.methodLink "CoreFinderLaw" (22 : Nat) ({ cls := "CoreFinderModel", name := "remove", desc := "(I)Z" } : Jvm.MethodName)) ∈ lw_all := lw_g (lw_at lw_m1 173 rfl) rfl
theorem q195 : (Jvm.Cond.methodLink "CoreFinderLaw" (27 : Nat) ({ cls := "CoreFinderModel", name := "clauses", desc := "()I" } : Jvm.MethodName)) ∈ lw_all := lw_g (lw_at lw_m1 177 rfl) rfl
theorem q199 : (Jvm.Cond.methodLink "CoreFinderLaw" (31 : Nat) ({ cls := "CoreFinderModel", name := "consistent", desc := "(I)Z" } : Jvm.MethodName)) ∈ lw_all := lw_g (lw_at lw_m1 181 rfl) rfl
theorem q215 : (Jvm.Cond.methodLink "CoreFinderLaw" (36 : Nat) ({ cls := "CoreFinderModel", name := "witness", desc := "(I)I" } : Jvm.MethodName)) ∈ lw_all := lw_g (lw_at lw_m1 197 rfl) rfl
theorem q216 : (Jvm.Cond.methodLink "CoreFinderLaw" (40 : Nat) ({ cls := "CoreFinderModel", name := "cores", desc := "()I" } : Jvm.MethodName)) ∈ lw_all := lw_g (lw_at lw_m1 198 rfl) rfl
theorem q230 : (Jvm.Cond.methodLink "CoreFinderLaw" (44 : Nat) ({ cls := "CoreFinderModel", name := "core", desc := "(I)I" } : Jvm.MethodName)) ∈ lw_all := lw_g (lw_at lw_m1 212 rfl) rfl
theorem q234 : (Jvm.Cond.methodLink "CoreFinderLaw" (48 : Nat) ({ cls := "CoreFinderModel", name := "repairs", desc := "()I" } : Jvm.MethodName)) ∈ lw_all := lw_g (lw_at lw_m1 216 rfl) rfl
theorem q242 : (Jvm.Cond.methodLink "CoreFinderLaw" (52 : Nat) ({ cls := "CoreFinderModel", name := "repair", desc := "(I)I" } : Jvm.MethodName)) ∈ lw_all := lw_g (lw_at lw_m1 224 rfl) rfl
theorem q246 : (Jvm.Cond.methodLink "CoreFinderLaw" (56 : Nat) ({ cls := "CoreFinderModel", name := "guilty", desc := "()I" } : Jvm.MethodName)) ∈ lw_all := lw_g (lw_at lw_m1 228 rfl) rfl
theorem q250 : (Jvm.Cond.methodLink "CoreFinderLaw" (60 : Nat) ({ cls := "CoreFinderModel", name := "central", desc := "()I" } : Jvm.MethodName)) ∈ lw_all := lw_g (lw_at lw_m1 232 rfl) rfl
theorem q254 : (Jvm.Cond.methodLink "CoreFinderLaw" (64 : Nat) ({ cls := "CoreFinderModel", name := "smallestCore", desc := "()I" } : Jvm.MethodName)) ∈ lw_all := lw_g (lw_at lw_m1 236 rfl) rfl
theorem q262 : (Jvm.Cond.methodLink "CoreFinderLaw" (68 : Nat) ({ cls := "CoreFinderModel", name := "mostTogether", desc := "()I" } : Jvm.MethodName)) ∈ lw_all := lw_g (lw_at lw_m2 4 rfl) rfl
theorem q266 : (Jvm.Cond.methodLink "CoreFinderLaw" (73 : Nat) ({ cls := "CoreFinderModel", name := "follows", desc := "(II)Z" } : Jvm.MethodName)) ∈ lw_all := lw_g (lw_at lw_m2 8 rfl) rfl
end
section
set_option maxRecDepth 100000
theorem dX0_init_0 : decode cX0_init 0 = .ok (.aload_n 0, 1) := by decide +kernel
theorem dX0_init_1 : decode cX0_init 1 = .ok (.invokespecial 1, 3) := by decide +kernel
theorem dX0_init_4 : decode cX0_init 4 = .ok (.aload_n 0, 1) := by decide +kernel
theorem dX0_init_5 : decode cX0_init 5 = .ok (.bipush 8, 2) := by decide +kernel
theorem dX0_init_7 : decode cX0_init 7 = .ok (.newarray .byte, 2) := by decide +kernel
theorem dX0_init_9 : decode cX0_init 9 = .ok (.putfield 7, 3) := by decide +kernel
theorem dX0_init_12 : decode cX0_init 12 = .ok (.aload_n 0, 1) := by decide +kernel
theorem dX0_init_13 : decode cX0_init 13 = .ok (.bipush 8, 2) := by decide +kernel
theorem dX0_init_15 : decode cX0_init 15 = .ok (.newarray .byte, 2) := by decide +kernel
theorem dX0_init_17 : decode cX0_init 17 = .ok (.putfield 13, 3) := by decide +kernel
theorem dX0_init_20 : decode cX0_init 20 = .ok (.aload_n 0, 1) := by decide +kernel
theorem dX0_init_21 : decode cX0_init 21 = .ok (.iconst 2, 1) := by decide +kernel
theorem dX0_init_22 : decode cX0_init 22 = .ok (.newarray .long, 2) := by decide +kernel
theorem dX0_init_24 : decode cX0_init 24 = .ok (.putfield 16, 3) := by decide +kernel
theorem dX0_init_27 : decode cX0_init 27 = .ok (.aload_n 0, 1) := by decide +kernel
theorem dX0_init_28 : decode cX0_init 28 = .ok (.iconst 2, 1) := by decide +kernel
theorem dX0_init_29 : decode cX0_init 29 = .ok (.newarray .long, 2) := by decide +kernel
theorem dX0_init_31 : decode cX0_init 31 = .ok (.putfield 20, 3) := by decide +kernel
theorem dX0_init_34 : decode cX0_init 34 = .ok (.aload_n 0, 1) := by decide +kernel
theorem dX0_init_35 : decode cX0_init 35 = .ok (.iconst 2, 1) := by decide +kernel
theorem dX0_init_36 : decode cX0_init 36 = .ok (.newarray .long, 2) := by decide +kernel
theorem dX0_init_38 : decode cX0_init 38 = .ok (.putfield 23, 3) := by decide +kernel
theorem dX0_init_41 : decode cX0_init 41 = .ok (.return_, 1) := by decide +kernel
theorem dX0_add_0 : decode cX0_add 0 = .ok (.iload_n 1, 1) := by decide +kernel
theorem dX0_add_1 : decode cX0_add 1 = .ok (.invokestatic 30, 3) := by decide +kernel
theorem dX0_add_4 : decode cX0_add 4 = .ok (.ifCond .eq 10, 3) := by decide +kernel
theorem dX0_add_7 : decode cX0_add 7 = .ok (.iload_n 2, 1) := by decide +kernel
theorem dX0_add_8 : decode cX0_add 8 = .ok (.invokestatic 30, 3) := by decide +kernel
theorem dX0_add_11 : decode cX0_add 11 = .ok (.ifCond .ne 5, 3) := by decide +kernel
theorem dX0_add_14 : decode cX0_add 14 = .ok (.iconst (-1), 1) := by decide +kernel
theorem dX0_add_15 : decode cX0_add 15 = .ok (.ireturn, 1) := by decide +kernel
theorem dX0_add_16 : decode cX0_add 16 = .ok (.iconst 0, 1) := by decide +kernel
theorem dX0_add_17 : decode cX0_add 17 = .ok (.istore_n 3, 1) := by decide +kernel
theorem dX0_add_18 : decode cX0_add 18 = .ok (.iload_n 3, 1) := by decide +kernel
theorem dX0_add_19 : decode cX0_add 19 = .ok (.bipush 7, 2) := by decide +kernel
theorem dX0_add_21 : decode cX0_add 21 = .ok (.if_icmp .ge 52, 3) := by decide +kernel
theorem dX0_add_24 : decode cX0_add 24 = .ok (.aload_n 0, 1) := by decide +kernel
theorem dX0_add_25 : decode cX0_add 25 = .ok (.iload_n 3, 1) := by decide +kernel
theorem dX0_add_26 : decode cX0_add 26 = .ok (.invokevirtual 34, 3) := by decide +kernel
theorem dX0_add_29 : decode cX0_add 29 = .ok (.ifCond .ne 38, 3) := by decide +kernel
theorem dX0_add_32 : decode cX0_add 32 = .ok (.aload_n 0, 1) := by decide +kernel
theorem dX0_add_33 : decode cX0_add 33 = .ok (.dup, 1) := by decide +kernel
theorem dX0_add_34 : decode cX0_add 34 = .ok (.getfield 26, 3) := by decide +kernel
theorem dX0_add_37 : decode cX0_add 37 = .ok (.iconst 1, 1) := by decide +kernel
theorem dX0_add_38 : decode cX0_add 38 = .ok (.iload_n 3, 1) := by decide +kernel
theorem dX0_add_39 : decode cX0_add 39 = .ok (.ishl, 1) := by decide +kernel
theorem dX0_add_40 : decode cX0_add 40 = .ok (.ior, 1) := by decide +kernel
theorem dX0_add_41 : decode cX0_add 41 = .ok (.putfield 26, 3) := by decide +kernel
theorem dX0_add_44 : decode cX0_add 44 = .ok (.aload_n 0, 1) := by decide +kernel
theorem dX0_add_45 : decode cX0_add 45 = .ok (.getfield 7, 3) := by decide +kernel
theorem dX0_add_48 : decode cX0_add 48 = .ok (.iload_n 3, 1) := by decide +kernel
theorem dX0_add_49 : decode cX0_add 49 = .ok (.iload_n 1, 1) := by decide +kernel
theorem dX0_add_50 : decode cX0_add 50 = .ok (.i2b, 1) := by decide +kernel
theorem dX0_add_51 : decode cX0_add 51 = .ok (.bastore, 1) := by decide +kernel
theorem dX0_add_52 : decode cX0_add 52 = .ok (.aload_n 0, 1) := by decide +kernel
theorem dX0_add_53 : decode cX0_add 53 = .ok (.getfield 13, 3) := by decide +kernel
theorem dX0_add_56 : decode cX0_add 56 = .ok (.iload_n 3, 1) := by decide +kernel
theorem dX0_add_57 : decode cX0_add 57 = .ok (.iload_n 2, 1) := by decide +kernel
theorem dX0_add_58 : decode cX0_add 58 = .ok (.i2b, 1) := by decide +kernel
theorem dX0_add_59 : decode cX0_add 59 = .ok (.bastore, 1) := by decide +kernel
theorem dX0_add_60 : decode cX0_add 60 = .ok (.aload_n 0, 1) := by decide +kernel
theorem dX0_add_61 : decode cX0_add 61 = .ok (.iconst 0, 1) := by decide +kernel
theorem dX0_add_62 : decode cX0_add 62 = .ok (.putfield 37, 3) := by decide +kernel
theorem dX0_add_65 : decode cX0_add 65 = .ok (.iload_n 3, 1) := by decide +kernel
theorem dX0_add_66 : decode cX0_add 66 = .ok (.ireturn, 1) := by decide +kernel
theorem dX0_add_67 : decode cX0_add 67 = .ok (.iinc 3 1, 3) := by decide +kernel
theorem dX0_add_70 : decode cX0_add 70 = .ok (.goto (-52), 3) := by decide +kernel
theorem dX0_add_73 : decode cX0_add 73 = .ok (.bipush (-2), 2) := by decide +kernel
theorem dX0_add_75 : decode cX0_add 75 = .ok (.ireturn, 1) := by decide +kernel
theorem dX0_isSet_0 : decode cX0_isSet 0 = .ok (.iload_n 0, 1) := by decide +kernel
theorem dX0_isSet_1 : decode cX0_isSet 1 = .ok (.ifCond .lt 13, 3) := by decide +kernel
theorem dX0_isSet_4 : decode cX0_isSet 4 = .ok (.iload_n 0, 1) := by decide +kernel
theorem dX0_isSet_5 : decode cX0_isSet 5 = .ok (.bipush 15, 2) := by decide +kernel
theorem dX0_isSet_7 : decode cX0_isSet 7 = .ok (.if_icmp .gt 7, 3) := by decide +kernel
theorem dX0_isSet_10 : decode cX0_isSet 10 = .ok (.iconst 1, 1) := by decide +kernel
theorem dX0_isSet_11 : decode cX0_isSet 11 = .ok (.goto 4, 3) := by decide +kernel
theorem dX0_isSet_14 : decode cX0_isSet 14 = .ok (.iconst 0, 1) := by decide +kernel
theorem dX0_isSet_15 : decode cX0_isSet 15 = .ok (.ireturn, 1) := by decide +kernel
theorem dX0_has_0 : decode cX0_has 0 = .ok (.iload_n 1, 1) := by decide +kernel
theorem dX0_has_1 : decode cX0_has 1 = .ok (.ifCond .lt 24, 3) := by decide +kernel
theorem dX0_has_4 : decode cX0_has 4 = .ok (.iload_n 1, 1) := by decide +kernel
theorem dX0_has_5 : decode cX0_has 5 = .ok (.bipush 7, 2) := by decide +kernel
theorem dX0_has_7 : decode cX0_has 7 = .ok (.if_icmp .ge 18, 3) := by decide +kernel
theorem dX0_has_10 : decode cX0_has 10 = .ok (.aload_n 0, 1) := by decide +kernel
theorem dX0_has_11 : decode cX0_has 11 = .ok (.getfield 26, 3) := by decide +kernel
theorem dX0_has_14 : decode cX0_has 14 = .ok (.iload_n 1, 1) := by decide +kernel
theorem dX0_has_15 : decode cX0_has 15 = .ok (.ishr, 1) := by decide +kernel
theorem dX0_has_16 : decode cX0_has 16 = .ok (.iconst 1, 1) := by decide +kernel
theorem dX0_has_17 : decode cX0_has 17 = .ok (.iand, 1) := by decide +kernel
theorem dX0_has_18 : decode cX0_has 18 = .ok (.ifCond .eq 7, 3) := by decide +kernel
theorem dX0_has_21 : decode cX0_has 21 = .ok (.iconst 1, 1) := by decide +kernel
theorem dX0_has_22 : decode cX0_has 22 = .ok (.goto 4, 3) := by decide +kernel
theorem dX0_has_25 : decode cX0_has 25 = .ok (.iconst 0, 1) := by decide +kernel
theorem dX0_has_26 : decode cX0_has 26 = .ok (.ireturn, 1) := by decide +kernel
theorem dX0_remove_0 : decode cX0_remove 0 = .ok (.aload_n 0, 1) := by decide +kernel
theorem dX0_remove_1 : decode cX0_remove 1 = .ok (.iload_n 1, 1) := by decide +kernel
theorem dX0_remove_2 : decode cX0_remove 2 = .ok (.invokevirtual 34, 3) := by decide +kernel
theorem dX0_remove_5 : decode cX0_remove 5 = .ok (.ifCond .ne 5, 3) := by decide +kernel
theorem dX0_remove_8 : decode cX0_remove 8 = .ok (.iconst 0, 1) := by decide +kernel
theorem dX0_remove_9 : decode cX0_remove 9 = .ok (.ireturn, 1) := by decide +kernel
theorem dX0_remove_10 : decode cX0_remove 10 = .ok (.aload_n 0, 1) := by decide +kernel
theorem dX0_remove_11 : decode cX0_remove 11 = .ok (.dup, 1) := by decide +kernel
theorem dX0_remove_12 : decode cX0_remove 12 = .ok (.getfield 26, 3) := by decide +kernel
theorem dX0_remove_15 : decode cX0_remove 15 = .ok (.iconst 1, 1) := by decide +kernel
theorem dX0_remove_16 : decode cX0_remove 16 = .ok (.iload_n 1, 1) := by decide +kernel
theorem dX0_remove_17 : decode cX0_remove 17 = .ok (.ishl, 1) := by decide +kernel
theorem dX0_remove_18 : decode cX0_remove 18 = .ok (.iconst (-1), 1) := by decide +kernel
theorem dX0_remove_19 : decode cX0_remove 19 = .ok (.ixor, 1) := by decide +kernel
theorem dX0_remove_20 : decode cX0_remove 20 = .ok (.iand, 1) := by decide +kernel
theorem dX0_remove_21 : decode cX0_remove 21 = .ok (.putfield 26, 3) := by decide +kernel
theorem dX0_remove_24 : decode cX0_remove 24 = .ok (.aload_n 0, 1) := by decide +kernel
theorem dX0_remove_25 : decode cX0_remove 25 = .ok (.iconst 0, 1) := by decide +kernel
theorem dX0_remove_26 : decode cX0_remove 26 = .ok (.putfield 37, 3) := by decide +kernel
theorem dX0_remove_29 : decode cX0_remove 29 = .ok (.iconst 1, 1) := by decide +kernel
theorem dX0_remove_30 : decode cX0_remove 30 = .ok (.ireturn, 1) := by decide +kernel
theorem dX0_clauses_0 : decode cX0_clauses 0 = .ok (.aload_n 0, 1) := by decide +kernel
theorem dX0_clauses_1 : decode cX0_clauses 1 = .ok (.getfield 26, 3) := by decide +kernel
theorem dX0_clauses_4 : decode cX0_clauses 4 = .ok (.ireturn, 1) := by decide +kernel
theorem dX0_consistent_0 : decode cX0_consistent 0 = .ok (.aload_n 0, 1) := by decide +kernel
theorem dX0_consistent_1 : decode cX0_consistent 1 = .ok (.iload_n 1, 1) := by decide +kernel
theorem dX0_consistent_2 : decode cX0_consistent 2 = .ok (.aload_n 0, 1) := by decide +kernel
theorem dX0_consistent_3 : decode cX0_consistent 3 = .ok (.getfield 26, 3) := by decide +kernel
theorem dX0_consistent_6 : decode cX0_consistent 6 = .ok (.iand, 1) := by decide +kernel
theorem dX0_consistent_7 : decode cX0_consistent 7 = .ok (.invokevirtual 57, 3) := by decide +kernel
theorem dX0_consistent_10 : decode cX0_consistent 10 = .ok (.ireturn, 1) := by decide +kernel
theorem dX0_holdsTogether_0 : decode cX0_holdsTogether 0 = .ok (.aload_n 0, 1) := by decide +kernel
theorem dX0_holdsTogether_1 : decode cX0_holdsTogether 1 = .ok (.iload_n 1, 1) := by decide +kernel
theorem dX0_holdsTogether_2 : decode cX0_holdsTogether 2 = .ok (.iconst 0, 1) := by decide +kernel
theorem dX0_holdsTogether_3 : decode cX0_holdsTogether 3 = .ok (.iconst 0, 1) := by decide +kernel
theorem dX0_holdsTogether_4 : decode cX0_holdsTogether 4 = .ok (.invokevirtual 45, 3) := by decide +kernel
theorem dX0_holdsTogether_7 : decode cX0_holdsTogether 7 = .ok (.ifCond .lt 7, 3) := by decide +kernel
theorem dX0_holdsTogether_10 : decode cX0_holdsTogether 10 = .ok (.iconst 1, 1) := by decide +kernel
theorem dX0_holdsTogether_11 : decode cX0_holdsTogether 11 = .ok (.goto 4, 3) := by decide +kernel
theorem dX0_holdsTogether_14 : decode cX0_holdsTogether 14 = .ok (.iconst 0, 1) := by decide +kernel
theorem dX0_holdsTogether_15 : decode cX0_holdsTogether 15 = .ok (.ireturn, 1) := by decide +kernel
theorem dX0_solve_0 : decode cX0_solve 0 = .ok (.iconst 4, 1) := by decide +kernel
theorem dX0_solve_1 : decode cX0_solve 1 = .ok (.istore 4, 2) := by decide +kernel
theorem dX0_solve_3 : decode cX0_solve 3 = .ok (.iconst 0, 1) := by decide +kernel
theorem dX0_solve_4 : decode cX0_solve 4 = .ok (.istore 5, 2) := by decide +kernel
theorem dX0_solve_6 : decode cX0_solve 6 = .ok (.iconst 0, 1) := by decide +kernel
theorem dX0_solve_7 : decode cX0_solve 7 = .ok (.istore 6, 2) := by decide +kernel
theorem dX0_solve_9 : decode cX0_solve 9 = .ok (.iload 6, 2) := by decide +kernel
theorem dX0_solve_11 : decode cX0_solve 11 = .ok (.bipush 64, 2) := by decide +kernel
theorem dX0_solve_13 : decode cX0_solve 13 = .ok (.if_icmp .ge 134, 3) := by decide +kernel
theorem dX0_solve_16 : decode cX0_solve 16 = .ok (.bipush 15, 2) := by decide +kernel
theorem dX0_solve_18 : decode cX0_solve 18 = .ok (.iconst 1, 1) := by decide +kernel
theorem dX0_solve_19 : decode cX0_solve 19 = .ok (.iload 4, 2) := by decide +kernel
theorem dX0_solve_21 : decode cX0_solve 21 = .ok (.ishl, 1) := by decide +kernel
theorem dX0_solve_22 : decode cX0_solve 22 = .ok (.iconst 1, 1) := by decide +kernel
theorem dX0_solve_23 : decode cX0_solve 23 = .ok (.isub, 1) := by decide +kernel
theorem dX0_solve_24 : decode cX0_solve 24 = .ok (.iconst (-1), 1) := by decide +kernel
theorem dX0_solve_25 : decode cX0_solve 25 = .ok (.ixor, 1) := by decide +kernel
theorem dX0_solve_26 : decode cX0_solve 26 = .ok (.iand, 1) := by decide +kernel
theorem dX0_solve_27 : decode cX0_solve 27 = .ok (.istore 7, 2) := by decide +kernel
theorem dX0_solve_29 : decode cX0_solve 29 = .ok (.aload_n 0, 1) := by decide +kernel
theorem dX0_solve_30 : decode cX0_solve 30 = .ok (.iload_n 1, 1) := by decide +kernel
theorem dX0_solve_31 : decode cX0_solve 31 = .ok (.iload 4, 2) := by decide +kernel
theorem dX0_solve_33 : decode cX0_solve 33 = .ok (.iload 5, 2) := by decide +kernel
theorem dX0_solve_35 : decode cX0_solve 35 = .ok (.invokevirtual 41, 3) := by decide +kernel
theorem dX0_solve_38 : decode cX0_solve 38 = .ok (.ifCond .ne 22, 3) := by decide +kernel
theorem dX0_solve_41 : decode cX0_solve 41 = .ok (.iload_n 2, 1) := by decide +kernel
theorem dX0_solve_42 : decode cX0_solve 42 = .ok (.iload 7, 2) := by decide +kernel
theorem dX0_solve_44 : decode cX0_solve 44 = .ok (.iand, 1) := by decide +kernel
theorem dX0_solve_45 : decode cX0_solve 45 = .ok (.iload 5, 2) := by decide +kernel
theorem dX0_solve_47 : decode cX0_solve 47 = .ok (.iconst (-1), 1) := by decide +kernel
theorem dX0_solve_48 : decode cX0_solve 48 = .ok (.ixor, 1) := by decide +kernel
theorem dX0_solve_49 : decode cX0_solve 49 = .ok (.iand, 1) := by decide +kernel
theorem dX0_solve_50 : decode cX0_solve 50 = .ok (.ifCond .ne 10, 3) := by decide +kernel
theorem dX0_solve_53 : decode cX0_solve 53 = .ok (.iload_n 3, 1) := by decide +kernel
theorem dX0_solve_54 : decode cX0_solve 54 = .ok (.iload 5, 2) := by decide +kernel
theorem dX0_solve_56 : decode cX0_solve 56 = .ok (.iand, 1) := by decide +kernel
theorem dX0_solve_57 : decode cX0_solve 57 = .ok (.ifCond .eq 7, 3) := by decide +kernel
theorem dX0_solve_60 : decode cX0_solve 60 = .ok (.iconst 1, 1) := by decide +kernel
theorem dX0_solve_61 : decode cX0_solve 61 = .ok (.goto 4, 3) := by decide +kernel
theorem dX0_solve_64 : decode cX0_solve 64 = .ok (.iconst 0, 1) := by decide +kernel
theorem dX0_solve_65 : decode cX0_solve 65 = .ok (.istore 8, 2) := by decide +kernel
theorem dX0_solve_67 : decode cX0_solve 67 = .ok (.iload 8, 2) := by decide +kernel
theorem dX0_solve_69 : decode cX0_solve 69 = .ok (.ifCond .ne 11, 3) := by decide +kernel
theorem dX0_solve_72 : decode cX0_solve 72 = .ok (.iload 4, 2) := by decide +kernel
theorem dX0_solve_74 : decode cX0_solve 74 = .ok (.ifCond .ne 6, 3) := by decide +kernel
theorem dX0_solve_77 : decode cX0_solve 77 = .ok (.iload 5, 2) := by decide +kernel
theorem dX0_solve_79 : decode cX0_solve 79 = .ok (.ireturn, 1) := by decide +kernel
theorem dX0_solve_80 : decode cX0_solve 80 = .ok (.iload 8, 2) := by decide +kernel
theorem dX0_solve_82 : decode cX0_solve 82 = .ok (.ifCond .ne 9, 3) := by decide +kernel
theorem dX0_solve_85 : decode cX0_solve 85 = .ok (.iinc 4 (-1), 3) := by decide +kernel
theorem dX0_solve_88 : decode cX0_solve 88 = .ok (.goto 53, 3) := by decide +kernel
theorem dX0_solve_91 : decode cX0_solve 91 = .ok (.iload 4, 2) := by decide +kernel
theorem dX0_solve_93 : decode cX0_solve 93 = .ok (.iconst 4, 1) := by decide +kernel
theorem dX0_solve_94 : decode cX0_solve 94 = .ok (.if_icmp .ge 30, 3) := by decide +kernel
theorem dX0_solve_97 : decode cX0_solve 97 = .ok (.iload 5, 2) := by decide +kernel
theorem dX0_solve_99 : decode cX0_solve 99 = .ok (.iload 4, 2) := by decide +kernel
theorem dX0_solve_101 : decode cX0_solve 101 = .ok (.ishr, 1) := by decide +kernel
theorem dX0_solve_102 : decode cX0_solve 102 = .ok (.iconst 1, 1) := by decide +kernel
theorem dX0_solve_103 : decode cX0_solve 103 = .ok (.iand, 1) := by decide +kernel
theorem dX0_solve_104 : decode cX0_solve 104 = .ok (.ifCond .eq 20, 3) := by decide +kernel
theorem dX0_solve_107 : decode cX0_solve 107 = .ok (.iload 5, 2) := by decide +kernel
theorem dX0_solve_109 : decode cX0_solve 109 = .ok (.iconst 1, 1) := by decide +kernel
theorem dX0_solve_110 : decode cX0_solve 110 = .ok (.iload 4, 2) := by decide +kernel
theorem dX0_solve_112 : decode cX0_solve 112 = .ok (.ishl, 1) := by decide +kernel
theorem dX0_solve_113 : decode cX0_solve 113 = .ok (.iconst (-1), 1) := by decide +kernel
theorem dX0_solve_114 : decode cX0_solve 114 = .ok (.ixor, 1) := by decide +kernel
theorem dX0_solve_115 : decode cX0_solve 115 = .ok (.iand, 1) := by decide +kernel
theorem dX0_solve_116 : decode cX0_solve 116 = .ok (.istore 5, 2) := by decide +kernel
theorem dX0_solve_118 : decode cX0_solve 118 = .ok (.iinc 4 1, 3) := by decide +kernel
theorem dX0_solve_121 : decode cX0_solve 121 = .ok (.goto (-30), 3) := by decide +kernel
theorem dX0_solve_124 : decode cX0_solve 124 = .ok (.iload 4, 2) := by decide +kernel
theorem dX0_solve_126 : decode cX0_solve 126 = .ok (.iconst 4, 1) := by decide +kernel
theorem dX0_solve_127 : decode cX0_solve 127 = .ok (.if_icmp .ne 5, 3) := by decide +kernel
theorem dX0_solve_130 : decode cX0_solve 130 = .ok (.iconst (-1), 1) := by decide +kernel
theorem dX0_solve_131 : decode cX0_solve 131 = .ok (.ireturn, 1) := by decide +kernel
theorem dX0_solve_132 : decode cX0_solve 132 = .ok (.iload 5, 2) := by decide +kernel
theorem dX0_solve_134 : decode cX0_solve 134 = .ok (.iconst 1, 1) := by decide +kernel
theorem dX0_solve_135 : decode cX0_solve 135 = .ok (.iload 4, 2) := by decide +kernel
theorem dX0_solve_137 : decode cX0_solve 137 = .ok (.ishl, 1) := by decide +kernel
theorem dX0_solve_138 : decode cX0_solve 138 = .ok (.ior, 1) := by decide +kernel
theorem dX0_solve_139 : decode cX0_solve 139 = .ok (.istore 5, 2) := by decide +kernel
theorem dX0_solve_141 : decode cX0_solve 141 = .ok (.iinc 6 1, 3) := by decide +kernel
theorem dX0_solve_144 : decode cX0_solve 144 = .ok (.goto (-135), 3) := by decide +kernel
theorem dX0_solve_147 : decode cX0_solve 147 = .ok (.iconst (-1), 1) := by decide +kernel
theorem dX0_solve_148 : decode cX0_solve 148 = .ok (.ireturn, 1) := by decide +kernel
theorem dX0_broken_0 : decode cX0_broken 0 = .ok (.bipush 15, 2) := by decide +kernel
theorem dX0_broken_2 : decode cX0_broken 2 = .ok (.iconst 1, 1) := by decide +kernel
theorem dX0_broken_3 : decode cX0_broken 3 = .ok (.iload_n 2, 1) := by decide +kernel
theorem dX0_broken_4 : decode cX0_broken 4 = .ok (.ishl, 1) := by decide +kernel
theorem dX0_broken_5 : decode cX0_broken 5 = .ok (.iconst 1, 1) := by decide +kernel
theorem dX0_broken_6 : decode cX0_broken 6 = .ok (.isub, 1) := by decide +kernel
theorem dX0_broken_7 : decode cX0_broken 7 = .ok (.iconst (-1), 1) := by decide +kernel
theorem dX0_broken_8 : decode cX0_broken 8 = .ok (.ixor, 1) := by decide +kernel
theorem dX0_broken_9 : decode cX0_broken 9 = .ok (.iand, 1) := by decide +kernel
theorem dX0_broken_10 : decode cX0_broken 10 = .ok (.istore 4, 2) := by decide +kernel
theorem dX0_broken_12 : decode cX0_broken 12 = .ok (.iconst 0, 1) := by decide +kernel
theorem dX0_broken_13 : decode cX0_broken 13 = .ok (.istore 5, 2) := by decide +kernel
theorem dX0_broken_15 : decode cX0_broken 15 = .ok (.iload 5, 2) := by decide +kernel
theorem dX0_broken_17 : decode cX0_broken 17 = .ok (.bipush 7, 2) := by decide +kernel
theorem dX0_broken_19 : decode cX0_broken 19 = .ok (.if_icmp .ge 93, 3) := by decide +kernel
theorem dX0_broken_22 : decode cX0_broken 22 = .ok (.iload_n 1, 1) := by decide +kernel
theorem dX0_broken_23 : decode cX0_broken 23 = .ok (.iload 5, 2) := by decide +kernel
theorem dX0_broken_25 : decode cX0_broken 25 = .ok (.ishr, 1) := by decide +kernel
theorem dX0_broken_26 : decode cX0_broken 26 = .ok (.iconst 1, 1) := by decide +kernel
theorem dX0_broken_27 : decode cX0_broken 27 = .ok (.iand, 1) := by decide +kernel
theorem dX0_broken_28 : decode cX0_broken 28 = .ok (.ifCond .eq 78, 3) := by decide +kernel
theorem dX0_broken_31 : decode cX0_broken 31 = .ok (.aload_n 0, 1) := by decide +kernel
theorem dX0_broken_32 : decode cX0_broken 32 = .ok (.getfield 7, 3) := by decide +kernel
theorem dX0_broken_35 : decode cX0_broken 35 = .ok (.iload 5, 2) := by decide +kernel
theorem dX0_broken_37 : decode cX0_broken 37 = .ok (.baload, 1) := by decide +kernel
theorem dX0_broken_38 : decode cX0_broken 38 = .ok (.aload_n 0, 1) := by decide +kernel
theorem dX0_broken_39 : decode cX0_broken 39 = .ok (.getfield 13, 3) := by decide +kernel
theorem dX0_broken_42 : decode cX0_broken 42 = .ok (.iload 5, 2) := by decide +kernel
theorem dX0_broken_44 : decode cX0_broken 44 = .ok (.baload, 1) := by decide +kernel
theorem dX0_broken_45 : decode cX0_broken 45 = .ok (.ior, 1) := by decide +kernel
theorem dX0_broken_46 : decode cX0_broken 46 = .ok (.iload 4, 2) := by decide +kernel
theorem dX0_broken_48 : decode cX0_broken 48 = .ok (.iconst (-1), 1) := by decide +kernel
theorem dX0_broken_49 : decode cX0_broken 49 = .ok (.ixor, 1) := by decide +kernel
theorem dX0_broken_50 : decode cX0_broken 50 = .ok (.iand, 1) := by decide +kernel
theorem dX0_broken_51 : decode cX0_broken 51 = .ok (.ifCond .ne 7, 3) := by decide +kernel
theorem dX0_broken_54 : decode cX0_broken 54 = .ok (.iconst 1, 1) := by decide +kernel
theorem dX0_broken_55 : decode cX0_broken 55 = .ok (.goto 4, 3) := by decide +kernel
theorem dX0_broken_58 : decode cX0_broken 58 = .ok (.iconst 0, 1) := by decide +kernel
theorem dX0_broken_59 : decode cX0_broken 59 = .ok (.istore 6, 2) := by decide +kernel
theorem dX0_broken_61 : decode cX0_broken 61 = .ok (.aload_n 0, 1) := by decide +kernel
theorem dX0_broken_62 : decode cX0_broken 62 = .ok (.getfield 7, 3) := by decide +kernel
theorem dX0_broken_65 : decode cX0_broken 65 = .ok (.iload 5, 2) := by decide +kernel
theorem dX0_broken_67 : decode cX0_broken 67 = .ok (.baload, 1) := by decide +kernel
theorem dX0_broken_68 : decode cX0_broken 68 = .ok (.iload_n 3, 1) := by decide +kernel
theorem dX0_broken_69 : decode cX0_broken 69 = .ok (.iand, 1) := by decide +kernel
theorem dX0_broken_70 : decode cX0_broken 70 = .ok (.ifCond .ne 17, 3) := by decide +kernel
theorem dX0_broken_73 : decode cX0_broken 73 = .ok (.aload_n 0, 1) := by decide +kernel
theorem dX0_broken_74 : decode cX0_broken 74 = .ok (.getfield 13, 3) := by decide +kernel
theorem dX0_broken_77 : decode cX0_broken 77 = .ok (.iload 5, 2) := by decide +kernel
theorem dX0_broken_79 : decode cX0_broken 79 = .ok (.baload, 1) := by decide +kernel
theorem dX0_broken_80 : decode cX0_broken 80 = .ok (.iload_n 3, 1) := by decide +kernel
theorem dX0_broken_81 : decode cX0_broken 81 = .ok (.iconst (-1), 1) := by decide +kernel
theorem dX0_broken_82 : decode cX0_broken 82 = .ok (.ixor, 1) := by decide +kernel
theorem dX0_broken_83 : decode cX0_broken 83 = .ok (.iand, 1) := by decide +kernel
theorem dX0_broken_84 : decode cX0_broken 84 = .ok (.ifCond .eq 7, 3) := by decide +kernel
theorem dX0_broken_87 : decode cX0_broken 87 = .ok (.iconst 1, 1) := by decide +kernel
theorem dX0_broken_88 : decode cX0_broken 88 = .ok (.goto 4, 3) := by decide +kernel
theorem dX0_broken_91 : decode cX0_broken 91 = .ok (.iconst 0, 1) := by decide +kernel
theorem dX0_broken_92 : decode cX0_broken 92 = .ok (.istore 7, 2) := by decide +kernel
theorem dX0_broken_94 : decode cX0_broken 94 = .ok (.iload 6, 2) := by decide +kernel
theorem dX0_broken_96 : decode cX0_broken 96 = .ok (.ifCond .eq 10, 3) := by decide +kernel
theorem dX0_broken_99 : decode cX0_broken 99 = .ok (.iload 7, 2) := by decide +kernel
theorem dX0_broken_101 : decode cX0_broken 101 = .ok (.ifCond .ne 5, 3) := by decide +kernel
theorem dX0_broken_104 : decode cX0_broken 104 = .ok (.iconst 1, 1) := by decide +kernel
theorem dX0_broken_105 : decode cX0_broken 105 = .ok (.ireturn, 1) := by decide +kernel
theorem dX0_broken_106 : decode cX0_broken 106 = .ok (.iinc 5 1, 3) := by decide +kernel
theorem dX0_broken_109 : decode cX0_broken 109 = .ok (.goto (-94), 3) := by decide +kernel
theorem dX0_broken_112 : decode cX0_broken 112 = .ok (.iconst 0, 1) := by decide +kernel
theorem dX0_broken_113 : decode cX0_broken 113 = .ok (.ireturn, 1) := by decide +kernel
theorem dX0_witness_0 : decode cX0_witness 0 = .ok (.aload_n 0, 1) := by decide +kernel
theorem dX0_witness_1 : decode cX0_witness 1 = .ok (.iload_n 1, 1) := by decide +kernel
theorem dX0_witness_2 : decode cX0_witness 2 = .ok (.aload_n 0, 1) := by decide +kernel
theorem dX0_witness_3 : decode cX0_witness 3 = .ok (.getfield 26, 3) := by decide +kernel
theorem dX0_witness_6 : decode cX0_witness 6 = .ok (.iand, 1) := by decide +kernel
theorem dX0_witness_7 : decode cX0_witness 7 = .ok (.iconst 0, 1) := by decide +kernel
theorem dX0_witness_8 : decode cX0_witness 8 = .ok (.iconst 0, 1) := by decide +kernel
theorem dX0_witness_9 : decode cX0_witness 9 = .ok (.invokevirtual 45, 3) := by decide +kernel
theorem dX0_witness_12 : decode cX0_witness 12 = .ok (.ireturn, 1) := by decide +kernel
theorem dX0_cores_0 : decode cX0_cores 0 = .ok (.aload_n 0, 1) := by decide +kernel
theorem dX0_cores_1 : decode cX0_cores 1 = .ok (.invokevirtual 70, 3) := by decide +kernel
theorem dX0_cores_4 : decode cX0_cores 4 = .ok (.iconst 0, 1) := by decide +kernel
theorem dX0_cores_5 : decode cX0_cores 5 = .ok (.istore_n 1, 1) := by decide +kernel
theorem dX0_cores_6 : decode cX0_cores 6 = .ok (.iconst 0, 1) := by decide +kernel
theorem dX0_cores_7 : decode cX0_cores 7 = .ok (.istore_n 2, 1) := by decide +kernel
theorem dX0_cores_8 : decode cX0_cores 8 = .ok (.iload_n 2, 1) := by decide +kernel
theorem dX0_cores_9 : decode cX0_cores 9 = .ok (.sipush 128, 3) := by decide +kernel
theorem dX0_cores_12 : decode cX0_cores 12 = .ok (.if_icmp .ge 25, 3) := by decide +kernel
theorem dX0_cores_15 : decode cX0_cores 15 = .ok (.iload_n 1, 1) := by decide +kernel
theorem dX0_cores_16 : decode cX0_cores 16 = .ok (.aload_n 0, 1) := by decide +kernel
theorem dX0_cores_17 : decode cX0_cores 17 = .ok (.iload_n 2, 1) := by decide +kernel
theorem dX0_cores_18 : decode cX0_cores 18 = .ok (.invokevirtual 73, 3) := by decide +kernel
theorem dX0_cores_21 : decode cX0_cores 21 = .ok (.ifCond .eq 7, 3) := by decide +kernel
theorem dX0_cores_24 : decode cX0_cores 24 = .ok (.iconst 1, 1) := by decide +kernel
theorem dX0_cores_25 : decode cX0_cores 25 = .ok (.goto 4, 3) := by decide +kernel
theorem dX0_cores_28 : decode cX0_cores 28 = .ok (.iconst 0, 1) := by decide +kernel
theorem dX0_cores_29 : decode cX0_cores 29 = .ok (.iadd, 1) := by decide +kernel
theorem dX0_cores_30 : decode cX0_cores 30 = .ok (.istore_n 1, 1) := by decide +kernel
theorem dX0_cores_31 : decode cX0_cores 31 = .ok (.iinc 2 1, 3) := by decide +kernel
theorem dX0_cores_34 : decode cX0_cores 34 = .ok (.goto (-26), 3) := by decide +kernel
theorem dX0_cores_37 : decode cX0_cores 37 = .ok (.iload_n 1, 1) := by decide +kernel
theorem dX0_cores_38 : decode cX0_cores 38 = .ok (.ireturn, 1) := by decide +kernel
theorem dX0_learn_0 : decode cX0_learn 0 = .ok (.aload_n 0, 1) := by decide +kernel
theorem dX0_learn_1 : decode cX0_learn 1 = .ok (.getfield 37, 3) := by decide +kernel
theorem dX0_learn_4 : decode cX0_learn 4 = .ok (.ifCond .eq 4, 3) := by decide +kernel
theorem dX0_learn_7 : decode cX0_learn 7 = .ok (.return_, 1) := by decide +kernel
theorem dX0_learn_8 : decode cX0_learn 8 = .ok (.aload_n 0, 1) := by decide +kernel
theorem dX0_learn_9 : decode cX0_learn 9 = .ok (.iconst 1, 1) := by decide +kernel
theorem dX0_learn_10 : decode cX0_learn 10 = .ok (.putfield 37, 3) := by decide +kernel
theorem dX0_learn_13 : decode cX0_learn 13 = .ok (.iconst 0, 1) := by decide +kernel
theorem dX0_learn_14 : decode cX0_learn 14 = .ok (.istore_n 1, 1) := by decide +kernel
theorem dX0_learn_15 : decode cX0_learn 15 = .ok (.iload_n 1, 1) := by decide +kernel
theorem dX0_learn_16 : decode cX0_learn 16 = .ok (.iconst 2, 1) := by decide +kernel
theorem dX0_learn_17 : decode cX0_learn 17 = .ok (.if_icmp .ge 30, 3) := by decide +kernel
theorem dX0_learn_20 : decode cX0_learn 20 = .ok (.aload_n 0, 1) := by decide +kernel
theorem dX0_learn_21 : decode cX0_learn 21 = .ok (.getfield 16, 3) := by decide +kernel
theorem dX0_learn_24 : decode cX0_learn 24 = .ok (.iload_n 1, 1) := by decide +kernel
theorem dX0_learn_25 : decode cX0_learn 25 = .ok (.lconst 0, 1) := by decide +kernel
theorem dX0_learn_26 : decode cX0_learn 26 = .ok (.lastore, 1) := by decide +kernel
theorem dX0_learn_27 : decode cX0_learn 27 = .ok (.aload_n 0, 1) := by decide +kernel
theorem dX0_learn_28 : decode cX0_learn 28 = .ok (.getfield 20, 3) := by decide +kernel
theorem dX0_learn_31 : decode cX0_learn 31 = .ok (.iload_n 1, 1) := by decide +kernel
theorem dX0_learn_32 : decode cX0_learn 32 = .ok (.lconst 0, 1) := by decide +kernel
theorem dX0_learn_33 : decode cX0_learn 33 = .ok (.lastore, 1) := by decide +kernel
theorem dX0_learn_34 : decode cX0_learn 34 = .ok (.aload_n 0, 1) := by decide +kernel
theorem dX0_learn_35 : decode cX0_learn 35 = .ok (.getfield 23, 3) := by decide +kernel
theorem dX0_learn_38 : decode cX0_learn 38 = .ok (.iload_n 1, 1) := by decide +kernel
theorem dX0_learn_39 : decode cX0_learn 39 = .ok (.lconst 0, 1) := by decide +kernel
theorem dX0_learn_40 : decode cX0_learn 40 = .ok (.lastore, 1) := by decide +kernel
theorem dX0_learn_41 : decode cX0_learn 41 = .ok (.iinc 1 1, 3) := by decide +kernel
theorem dX0_learn_44 : decode cX0_learn 44 = .ok (.goto (-29), 3) := by decide +kernel
theorem dX0_learn_47 : decode cX0_learn 47 = .ok (.iconst 0, 1) := by decide +kernel
theorem dX0_learn_48 : decode cX0_learn 48 = .ok (.istore_n 1, 1) := by decide +kernel
theorem dX0_learn_49 : decode cX0_learn 49 = .ok (.iload_n 1, 1) := by decide +kernel
theorem dX0_learn_50 : decode cX0_learn 50 = .ok (.sipush 128, 3) := by decide +kernel
theorem dX0_learn_53 : decode cX0_learn 53 = .ok (.if_icmp .ge 40, 3) := by decide +kernel
theorem dX0_learn_56 : decode cX0_learn 56 = .ok (.aload_n 0, 1) := by decide +kernel
theorem dX0_learn_57 : decode cX0_learn 57 = .ok (.invokevirtual 53, 3) := by decide +kernel
theorem dX0_learn_60 : decode cX0_learn 60 = .ok (.istore_n 2, 1) := by decide +kernel
theorem dX0_learn_61 : decode cX0_learn 61 = .ok (.iload_n 2, 1) := by decide +kernel
theorem dX0_learn_62 : decode cX0_learn 62 = .ok (.ifCond .ge 4, 3) := by decide +kernel
theorem dX0_learn_65 : decode cX0_learn 65 = .ok (.return_, 1) := by decide +kernel
theorem dX0_learn_66 : decode cX0_learn 66 = .ok (.aload_n 0, 1) := by decide +kernel
theorem dX0_learn_67 : decode cX0_learn 67 = .ok (.iload_n 2, 1) := by decide +kernel
theorem dX0_learn_68 : decode cX0_learn 68 = .ok (.invokevirtual 57, 3) := by decide +kernel
theorem dX0_learn_71 : decode cX0_learn 71 = .ok (.ifCond .eq 11, 3) := by decide +kernel
theorem dX0_learn_74 : decode cX0_learn 74 = .ok (.aload_n 0, 1) := by decide +kernel
theorem dX0_learn_75 : decode cX0_learn 75 = .ok (.iload_n 2, 1) := by decide +kernel
theorem dX0_learn_76 : decode cX0_learn 76 = .ok (.invokevirtual 60, 3) := by decide +kernel
theorem dX0_learn_79 : decode cX0_learn 79 = .ok (.goto 8, 3) := by decide +kernel
theorem dX0_learn_82 : decode cX0_learn 82 = .ok (.aload_n 0, 1) := by decide +kernel
theorem dX0_learn_83 : decode cX0_learn 83 = .ok (.iload_n 2, 1) := by decide +kernel
theorem dX0_learn_84 : decode cX0_learn 84 = .ok (.invokevirtual 64, 3) := by decide +kernel
theorem dX0_learn_87 : decode cX0_learn 87 = .ok (.iinc 1 1, 3) := by decide +kernel
theorem dX0_learn_90 : decode cX0_learn 90 = .ok (.goto (-41), 3) := by decide +kernel
theorem dX0_learn_93 : decode cX0_learn 93 = .ok (.return_, 1) := by decide +kernel
theorem dX0_undecided_0 : decode cX0_undecided 0 = .ok (.bipush 127, 2) := by decide +kernel
theorem dX0_undecided_2 : decode cX0_undecided 2 = .ok (.istore_n 1, 1) := by decide +kernel
theorem dX0_undecided_3 : decode cX0_undecided 3 = .ok (.iload_n 1, 1) := by decide +kernel
theorem dX0_undecided_4 : decode cX0_undecided 4 = .ok (.ifCond .lt 30, 3) := by decide +kernel
theorem dX0_undecided_7 : decode cX0_undecided 7 = .ok (.iload_n 1, 1) := by decide +kernel
theorem dX0_undecided_8 : decode cX0_undecided 8 = .ok (.aload_n 0, 1) := by decide +kernel
theorem dX0_undecided_9 : decode cX0_undecided 9 = .ok (.getfield 26, 3) := by decide +kernel
theorem dX0_undecided_12 : decode cX0_undecided 12 = .ok (.iconst (-1), 1) := by decide +kernel
theorem dX0_undecided_13 : decode cX0_undecided 13 = .ok (.ixor, 1) := by decide +kernel
theorem dX0_undecided_14 : decode cX0_undecided 14 = .ok (.iand, 1) := by decide +kernel
theorem dX0_undecided_15 : decode cX0_undecided 15 = .ok (.ifCond .ne 13, 3) := by decide +kernel
theorem dX0_undecided_18 : decode cX0_undecided 18 = .ok (.aload_n 0, 1) := by decide +kernel
theorem dX0_undecided_19 : decode cX0_undecided 19 = .ok (.iload_n 1, 1) := by decide +kernel
theorem dX0_undecided_20 : decode cX0_undecided 20 = .ok (.invokevirtual 67, 3) := by decide +kernel
theorem dX0_undecided_23 : decode cX0_undecided 23 = .ok (.ifCond .ne 5, 3) := by decide +kernel
theorem dX0_undecided_26 : decode cX0_undecided 26 = .ok (.iload_n 1, 1) := by decide +kernel
theorem dX0_undecided_27 : decode cX0_undecided 27 = .ok (.ireturn, 1) := by decide +kernel
theorem dX0_undecided_28 : decode cX0_undecided 28 = .ok (.iinc 1 (-1), 3) := by decide +kernel
theorem dX0_undecided_31 : decode cX0_undecided 31 = .ok (.goto (-28), 3) := by decide +kernel
theorem dX0_undecided_34 : decode cX0_undecided 34 = .ok (.iconst (-1), 1) := by decide +kernel
theorem dX0_undecided_35 : decode cX0_undecided 35 = .ok (.ireturn, 1) := by decide +kernel
theorem dX0_isDecided_0 : decode cX0_isDecided 0 = .ok (.aload_n 0, 1) := by decide +kernel
theorem dX0_isDecided_1 : decode cX0_isDecided 1 = .ok (.getfield 16, 3) := by decide +kernel
theorem dX0_isDecided_4 : decode cX0_isDecided 4 = .ok (.iconst 0, 1) := by decide +kernel
theorem dX0_isDecided_5 : decode cX0_isDecided 5 = .ok (.laload, 1) := by decide +kernel
theorem dX0_isDecided_6 : decode cX0_isDecided 6 = .ok (.aload_n 0, 1) := by decide +kernel
theorem dX0_isDecided_7 : decode cX0_isDecided 7 = .ok (.getfield 16, 3) := by decide +kernel
theorem dX0_isDecided_10 : decode cX0_isDecided 10 = .ok (.iconst 1, 1) := by decide +kernel
theorem dX0_isDecided_11 : decode cX0_isDecided 11 = .ok (.laload, 1) := by decide +kernel
theorem dX0_isDecided_12 : decode cX0_isDecided 12 = .ok (.iload_n 1, 1) := by decide +kernel
theorem dX0_isDecided_13 : decode cX0_isDecided 13 = .ok (.invokestatic 49, 3) := by decide +kernel
theorem dX0_isDecided_16 : decode cX0_isDecided 16 = .ok (.ireturn, 1) := by decide +kernel
theorem dX0_inWords_0 : decode cX0_inWords 0 = .ok (.iload 4, 2) := by decide +kernel
theorem dX0_inWords_2 : decode cX0_inWords 2 = .ok (.bipush 64, 2) := by decide +kernel
theorem dX0_inWords_4 : decode cX0_inWords 4 = .ok (.if_icmp .ge 10, 3) := by decide +kernel
theorem dX0_inWords_7 : decode cX0_inWords 7 = .ok (.lload_n 0, 1) := by decide +kernel
theorem dX0_inWords_8 : decode cX0_inWords 8 = .ok (.iload 4, 2) := by decide +kernel
theorem dX0_inWords_10 : decode cX0_inWords 10 = .ok (.lushr, 1) := by decide +kernel
theorem dX0_inWords_11 : decode cX0_inWords 11 = .ok (.goto 10, 3) := by decide +kernel
theorem dX0_inWords_14 : decode cX0_inWords 14 = .ok (.lload_n 2, 1) := by decide +kernel
theorem dX0_inWords_15 : decode cX0_inWords 15 = .ok (.iload 4, 2) := by decide +kernel
theorem dX0_inWords_17 : decode cX0_inWords 17 = .ok (.bipush 64, 2) := by decide +kernel
theorem dX0_inWords_19 : decode cX0_inWords 19 = .ok (.isub, 1) := by decide +kernel
theorem dX0_inWords_20 : decode cX0_inWords 20 = .ok (.lushr, 1) := by decide +kernel
theorem dX0_inWords_21 : decode cX0_inWords 21 = .ok (.lconst 1, 1) := by decide +kernel
theorem dX0_inWords_22 : decode cX0_inWords 22 = .ok (.land, 1) := by decide +kernel
theorem dX0_inWords_23 : decode cX0_inWords 23 = .ok (.lconst 0, 1) := by decide +kernel
theorem dX0_inWords_24 : decode cX0_inWords 24 = .ok (.lcmp, 1) := by decide +kernel
theorem dX0_inWords_25 : decode cX0_inWords 25 = .ok (.ifCond .eq 7, 3) := by decide +kernel
theorem dX0_inWords_28 : decode cX0_inWords 28 = .ok (.iconst 1, 1) := by decide +kernel
theorem dX0_inWords_29 : decode cX0_inWords 29 = .ok (.goto 4, 3) := by decide +kernel
theorem dX0_inWords_32 : decode cX0_inWords 32 = .ok (.iconst 0, 1) := by decide +kernel
theorem dX0_inWords_33 : decode cX0_inWords 33 = .ok (.ireturn, 1) := by decide +kernel
theorem dX0_grow_0 : decode cX0_grow 0 = .ok (.iload_n 1, 1) := by decide +kernel
theorem dX0_grow_1 : decode cX0_grow 1 = .ok (.istore_n 2, 1) := by decide +kernel
theorem dX0_grow_2 : decode cX0_grow 2 = .ok (.iconst 0, 1) := by decide +kernel
theorem dX0_grow_3 : decode cX0_grow 3 = .ok (.istore_n 3, 1) := by decide +kernel
theorem dX0_grow_4 : decode cX0_grow 4 = .ok (.iload_n 3, 1) := by decide +kernel
theorem dX0_grow_5 : decode cX0_grow 5 = .ok (.bipush 7, 2) := by decide +kernel
theorem dX0_grow_7 : decode cX0_grow 7 = .ok (.if_icmp .ge 35, 3) := by decide +kernel
theorem dX0_grow_10 : decode cX0_grow 10 = .ok (.aload_n 0, 1) := by decide +kernel
theorem dX0_grow_11 : decode cX0_grow 11 = .ok (.iload_n 3, 1) := by decide +kernel
theorem dX0_grow_12 : decode cX0_grow 12 = .ok (.invokevirtual 34, 3) := by decide +kernel
theorem dX0_grow_15 : decode cX0_grow 15 = .ok (.ifCond .eq 21, 3) := by decide +kernel
theorem dX0_grow_18 : decode cX0_grow 18 = .ok (.aload_n 0, 1) := by decide +kernel
theorem dX0_grow_19 : decode cX0_grow 19 = .ok (.iload_n 2, 1) := by decide +kernel
theorem dX0_grow_20 : decode cX0_grow 20 = .ok (.iconst 1, 1) := by decide +kernel
theorem dX0_grow_21 : decode cX0_grow 21 = .ok (.iload_n 3, 1) := by decide +kernel
theorem dX0_grow_22 : decode cX0_grow 22 = .ok (.ishl, 1) := by decide +kernel
theorem dX0_grow_23 : decode cX0_grow 23 = .ok (.ior, 1) := by decide +kernel
theorem dX0_grow_24 : decode cX0_grow 24 = .ok (.invokevirtual 57, 3) := by decide +kernel
theorem dX0_grow_27 : decode cX0_grow 27 = .ok (.ifCond .eq 9, 3) := by decide +kernel
theorem dX0_grow_30 : decode cX0_grow 30 = .ok (.iload_n 2, 1) := by decide +kernel
theorem dX0_grow_31 : decode cX0_grow 31 = .ok (.iconst 1, 1) := by decide +kernel
theorem dX0_grow_32 : decode cX0_grow 32 = .ok (.iload_n 3, 1) := by decide +kernel
theorem dX0_grow_33 : decode cX0_grow 33 = .ok (.ishl, 1) := by decide +kernel
theorem dX0_grow_34 : decode cX0_grow 34 = .ok (.ior, 1) := by decide +kernel
theorem dX0_grow_35 : decode cX0_grow 35 = .ok (.istore_n 2, 1) := by decide +kernel
theorem dX0_grow_36 : decode cX0_grow 36 = .ok (.iinc 3 1, 3) := by decide +kernel
theorem dX0_grow_39 : decode cX0_grow 39 = .ok (.goto (-35), 3) := by decide +kernel
theorem dX0_grow_42 : decode cX0_grow 42 = .ok (.aload_n 0, 1) := by decide +kernel
theorem dX0_grow_43 : decode cX0_grow 43 = .ok (.getfield 26, 3) := by decide +kernel
theorem dX0_grow_46 : decode cX0_grow 46 = .ok (.iload_n 2, 1) := by decide +kernel
theorem dX0_grow_47 : decode cX0_grow 47 = .ok (.iconst (-1), 1) := by decide +kernel
theorem dX0_grow_48 : decode cX0_grow 48 = .ok (.ixor, 1) := by decide +kernel
theorem dX0_grow_49 : decode cX0_grow 49 = .ok (.iand, 1) := by decide +kernel
theorem dX0_grow_50 : decode cX0_grow 50 = .ok (.istore_n 3, 1) := by decide +kernel
theorem dX0_grow_51 : decode cX0_grow 51 = .ok (.aload_n 0, 1) := by decide +kernel
theorem dX0_grow_52 : decode cX0_grow 52 = .ok (.getfield 23, 3) := by decide +kernel
theorem dX0_grow_55 : decode cX0_grow 55 = .ok (.iload_n 3, 1) := by decide +kernel
theorem dX0_grow_56 : decode cX0_grow 56 = .ok (.bipush 6, 2) := by decide +kernel
theorem dX0_grow_58 : decode cX0_grow 58 = .ok (.ishr, 1) := by decide +kernel
theorem dX0_grow_59 : decode cX0_grow 59 = .ok (.dup2, 1) := by decide +kernel
theorem dX0_grow_60 : decode cX0_grow 60 = .ok (.laload, 1) := by decide +kernel
theorem dX0_grow_61 : decode cX0_grow 61 = .ok (.lconst 1, 1) := by decide +kernel
theorem dX0_grow_62 : decode cX0_grow 62 = .ok (.iload_n 3, 1) := by decide +kernel
theorem dX0_grow_63 : decode cX0_grow 63 = .ok (.bipush 63, 2) := by decide +kernel
theorem dX0_grow_65 : decode cX0_grow 65 = .ok (.iand, 1) := by decide +kernel
theorem dX0_grow_66 : decode cX0_grow 66 = .ok (.lshl, 1) := by decide +kernel
theorem dX0_grow_67 : decode cX0_grow 67 = .ok (.lor, 1) := by decide +kernel
theorem dX0_grow_68 : decode cX0_grow 68 = .ok (.lastore, 1) := by decide +kernel
theorem dX0_grow_69 : decode cX0_grow 69 = .ok (.iconst 0, 1) := by decide +kernel
theorem dX0_grow_70 : decode cX0_grow 70 = .ok (.istore 4, 2) := by decide +kernel
theorem dX0_grow_72 : decode cX0_grow 72 = .ok (.iload 4, 2) := by decide +kernel
theorem dX0_grow_74 : decode cX0_grow 74 = .ok (.sipush 128, 3) := by decide +kernel
theorem dX0_grow_77 : decode cX0_grow 77 = .ok (.if_icmp .ge 38, 3) := by decide +kernel
theorem dX0_grow_80 : decode cX0_grow 80 = .ok (.iload 4, 2) := by decide +kernel
theorem dX0_grow_82 : decode cX0_grow 82 = .ok (.iload_n 2, 1) := by decide +kernel
theorem dX0_grow_83 : decode cX0_grow 83 = .ok (.iconst (-1), 1) := by decide +kernel
theorem dX0_grow_84 : decode cX0_grow 84 = .ok (.ixor, 1) := by decide +kernel
theorem dX0_grow_85 : decode cX0_grow 85 = .ok (.iand, 1) := by decide +kernel
theorem dX0_grow_86 : decode cX0_grow 86 = .ok (.ifCond .ne 23, 3) := by decide +kernel
theorem dX0_grow_89 : decode cX0_grow 89 = .ok (.aload_n 0, 1) := by decide +kernel
theorem dX0_grow_90 : decode cX0_grow 90 = .ok (.getfield 16, 3) := by decide +kernel
theorem dX0_grow_93 : decode cX0_grow 93 = .ok (.iload 4, 2) := by decide +kernel
theorem dX0_grow_95 : decode cX0_grow 95 = .ok (.bipush 6, 2) := by decide +kernel
theorem dX0_grow_97 : decode cX0_grow 97 = .ok (.ishr, 1) := by decide +kernel
theorem dX0_grow_98 : decode cX0_grow 98 = .ok (.dup2, 1) := by decide +kernel
theorem dX0_grow_99 : decode cX0_grow 99 = .ok (.laload, 1) := by decide +kernel
theorem dX0_grow_100 : decode cX0_grow 100 = .ok (.lconst 1, 1) := by decide +kernel
theorem dX0_grow_101 : decode cX0_grow 101 = .ok (.iload 4, 2) := by decide +kernel
theorem dX0_grow_103 : decode cX0_grow 103 = .ok (.bipush 63, 2) := by decide +kernel
theorem dX0_grow_105 : decode cX0_grow 105 = .ok (.iand, 1) := by decide +kernel
theorem dX0_grow_106 : decode cX0_grow 106 = .ok (.lshl, 1) := by decide +kernel
theorem dX0_grow_107 : decode cX0_grow 107 = .ok (.lor, 1) := by decide +kernel
theorem dX0_grow_108 : decode cX0_grow 108 = .ok (.lastore, 1) := by decide +kernel
theorem dX0_grow_109 : decode cX0_grow 109 = .ok (.iinc 4 1, 3) := by decide +kernel
theorem dX0_grow_112 : decode cX0_grow 112 = .ok (.goto (-40), 3) := by decide +kernel
theorem dX0_grow_115 : decode cX0_grow 115 = .ok (.return_, 1) := by decide +kernel
theorem dX0_shrink_0 : decode cX0_shrink 0 = .ok (.iload_n 1, 1) := by decide +kernel
theorem dX0_shrink_1 : decode cX0_shrink 1 = .ok (.istore_n 2, 1) := by decide +kernel
theorem dX0_shrink_2 : decode cX0_shrink 2 = .ok (.iconst 0, 1) := by decide +kernel
theorem dX0_shrink_3 : decode cX0_shrink 3 = .ok (.istore_n 3, 1) := by decide +kernel
theorem dX0_shrink_4 : decode cX0_shrink 4 = .ok (.iload_n 3, 1) := by decide +kernel
theorem dX0_shrink_5 : decode cX0_shrink 5 = .ok (.bipush 7, 2) := by decide +kernel
theorem dX0_shrink_7 : decode cX0_shrink 7 = .ok (.if_icmp .ge 39, 3) := by decide +kernel
theorem dX0_shrink_10 : decode cX0_shrink 10 = .ok (.iload_n 2, 1) := by decide +kernel
theorem dX0_shrink_11 : decode cX0_shrink 11 = .ok (.iload_n 3, 1) := by decide +kernel
theorem dX0_shrink_12 : decode cX0_shrink 12 = .ok (.ishr, 1) := by decide +kernel
theorem dX0_shrink_13 : decode cX0_shrink 13 = .ok (.iconst 1, 1) := by decide +kernel
theorem dX0_shrink_14 : decode cX0_shrink 14 = .ok (.iand, 1) := by decide +kernel
theorem dX0_shrink_15 : decode cX0_shrink 15 = .ok (.ifCond .eq 25, 3) := by decide +kernel
theorem dX0_shrink_18 : decode cX0_shrink 18 = .ok (.aload_n 0, 1) := by decide +kernel
theorem dX0_shrink_19 : decode cX0_shrink 19 = .ok (.iload_n 2, 1) := by decide +kernel
theorem dX0_shrink_20 : decode cX0_shrink 20 = .ok (.iconst 1, 1) := by decide +kernel
theorem dX0_shrink_21 : decode cX0_shrink 21 = .ok (.iload_n 3, 1) := by decide +kernel
theorem dX0_shrink_22 : decode cX0_shrink 22 = .ok (.ishl, 1) := by decide +kernel
theorem dX0_shrink_23 : decode cX0_shrink 23 = .ok (.iconst (-1), 1) := by decide +kernel
theorem dX0_shrink_24 : decode cX0_shrink 24 = .ok (.ixor, 1) := by decide +kernel
theorem dX0_shrink_25 : decode cX0_shrink 25 = .ok (.iand, 1) := by decide +kernel
theorem dX0_shrink_26 : decode cX0_shrink 26 = .ok (.invokevirtual 57, 3) := by decide +kernel
theorem dX0_shrink_29 : decode cX0_shrink 29 = .ok (.ifCond .ne 11, 3) := by decide +kernel
theorem dX0_shrink_32 : decode cX0_shrink 32 = .ok (.iload_n 2, 1) := by decide +kernel
theorem dX0_shrink_33 : decode cX0_shrink 33 = .ok (.iconst 1, 1) := by decide +kernel
theorem dX0_shrink_34 : decode cX0_shrink 34 = .ok (.iload_n 3, 1) := by decide +kernel
theorem dX0_shrink_35 : decode cX0_shrink 35 = .ok (.ishl, 1) := by decide +kernel
theorem dX0_shrink_36 : decode cX0_shrink 36 = .ok (.iconst (-1), 1) := by decide +kernel
theorem dX0_shrink_37 : decode cX0_shrink 37 = .ok (.ixor, 1) := by decide +kernel
theorem dX0_shrink_38 : decode cX0_shrink 38 = .ok (.iand, 1) := by decide +kernel
theorem dX0_shrink_39 : decode cX0_shrink 39 = .ok (.istore_n 2, 1) := by decide +kernel
theorem dX0_shrink_40 : decode cX0_shrink 40 = .ok (.iinc 3 1, 3) := by decide +kernel
theorem dX0_shrink_43 : decode cX0_shrink 43 = .ok (.goto (-39), 3) := by decide +kernel
theorem dX0_shrink_46 : decode cX0_shrink 46 = .ok (.aload_n 0, 1) := by decide +kernel
theorem dX0_shrink_47 : decode cX0_shrink 47 = .ok (.getfield 20, 3) := by decide +kernel
theorem dX0_shrink_50 : decode cX0_shrink 50 = .ok (.iload_n 2, 1) := by decide +kernel
theorem dX0_shrink_51 : decode cX0_shrink 51 = .ok (.bipush 6, 2) := by decide +kernel
theorem dX0_shrink_53 : decode cX0_shrink 53 = .ok (.ishr, 1) := by decide +kernel
theorem dX0_shrink_54 : decode cX0_shrink 54 = .ok (.dup2, 1) := by decide +kernel
theorem dX0_shrink_55 : decode cX0_shrink 55 = .ok (.laload, 1) := by decide +kernel
theorem dX0_shrink_56 : decode cX0_shrink 56 = .ok (.lconst 1, 1) := by decide +kernel
theorem dX0_shrink_57 : decode cX0_shrink 57 = .ok (.iload_n 2, 1) := by decide +kernel
theorem dX0_shrink_58 : decode cX0_shrink 58 = .ok (.bipush 63, 2) := by decide +kernel
theorem dX0_shrink_60 : decode cX0_shrink 60 = .ok (.iand, 1) := by decide +kernel
theorem dX0_shrink_61 : decode cX0_shrink 61 = .ok (.lshl, 1) := by decide +kernel
theorem dX0_shrink_62 : decode cX0_shrink 62 = .ok (.lor, 1) := by decide +kernel
theorem dX0_shrink_63 : decode cX0_shrink 63 = .ok (.lastore, 1) := by decide +kernel
theorem dX0_shrink_64 : decode cX0_shrink 64 = .ok (.iconst 0, 1) := by decide +kernel
theorem dX0_shrink_65 : decode cX0_shrink 65 = .ok (.istore_n 3, 1) := by decide +kernel
theorem dX0_shrink_66 : decode cX0_shrink 66 = .ok (.iload_n 3, 1) := by decide +kernel
theorem dX0_shrink_67 : decode cX0_shrink 67 = .ok (.sipush 128, 3) := by decide +kernel
theorem dX0_shrink_70 : decode cX0_shrink 70 = .ok (.if_icmp .ge 35, 3) := by decide +kernel
theorem dX0_shrink_73 : decode cX0_shrink 73 = .ok (.iload_n 2, 1) := by decide +kernel
theorem dX0_shrink_74 : decode cX0_shrink 74 = .ok (.iload_n 3, 1) := by decide +kernel
theorem dX0_shrink_75 : decode cX0_shrink 75 = .ok (.iconst (-1), 1) := by decide +kernel
theorem dX0_shrink_76 : decode cX0_shrink 76 = .ok (.ixor, 1) := by decide +kernel
theorem dX0_shrink_77 : decode cX0_shrink 77 = .ok (.iand, 1) := by decide +kernel
theorem dX0_shrink_78 : decode cX0_shrink 78 = .ok (.ifCond .ne 21, 3) := by decide +kernel
theorem dX0_shrink_81 : decode cX0_shrink 81 = .ok (.aload_n 0, 1) := by decide +kernel
theorem dX0_shrink_82 : decode cX0_shrink 82 = .ok (.getfield 16, 3) := by decide +kernel
theorem dX0_shrink_85 : decode cX0_shrink 85 = .ok (.iload_n 3, 1) := by decide +kernel
theorem dX0_shrink_86 : decode cX0_shrink 86 = .ok (.bipush 6, 2) := by decide +kernel
theorem dX0_shrink_88 : decode cX0_shrink 88 = .ok (.ishr, 1) := by decide +kernel
theorem dX0_shrink_89 : decode cX0_shrink 89 = .ok (.dup2, 1) := by decide +kernel
theorem dX0_shrink_90 : decode cX0_shrink 90 = .ok (.laload, 1) := by decide +kernel
theorem dX0_shrink_91 : decode cX0_shrink 91 = .ok (.lconst 1, 1) := by decide +kernel
theorem dX0_shrink_92 : decode cX0_shrink 92 = .ok (.iload_n 3, 1) := by decide +kernel
theorem dX0_shrink_93 : decode cX0_shrink 93 = .ok (.bipush 63, 2) := by decide +kernel
theorem dX0_shrink_95 : decode cX0_shrink 95 = .ok (.iand, 1) := by decide +kernel
theorem dX0_shrink_96 : decode cX0_shrink 96 = .ok (.lshl, 1) := by decide +kernel
theorem dX0_shrink_97 : decode cX0_shrink 97 = .ok (.lor, 1) := by decide +kernel
theorem dX0_shrink_98 : decode cX0_shrink 98 = .ok (.lastore, 1) := by decide +kernel
theorem dX0_shrink_99 : decode cX0_shrink 99 = .ok (.iinc 3 1, 3) := by decide +kernel
theorem dX0_shrink_102 : decode cX0_shrink 102 = .ok (.goto (-36), 3) := by decide +kernel
theorem dX0_shrink_105 : decode cX0_shrink 105 = .ok (.return_, 1) := by decide +kernel
theorem dX0_isCore_0 : decode cX0_isCore 0 = .ok (.aload_n 0, 1) := by decide +kernel
theorem dX0_isCore_1 : decode cX0_isCore 1 = .ok (.getfield 20, 3) := by decide +kernel
theorem dX0_isCore_4 : decode cX0_isCore 4 = .ok (.iconst 0, 1) := by decide +kernel
theorem dX0_isCore_5 : decode cX0_isCore 5 = .ok (.laload, 1) := by decide +kernel
theorem dX0_isCore_6 : decode cX0_isCore 6 = .ok (.aload_n 0, 1) := by decide +kernel
theorem dX0_isCore_7 : decode cX0_isCore 7 = .ok (.getfield 20, 3) := by decide +kernel
theorem dX0_isCore_10 : decode cX0_isCore 10 = .ok (.iconst 1, 1) := by decide +kernel
theorem dX0_isCore_11 : decode cX0_isCore 11 = .ok (.laload, 1) := by decide +kernel
theorem dX0_isCore_12 : decode cX0_isCore 12 = .ok (.iload_n 1, 1) := by decide +kernel
theorem dX0_isCore_13 : decode cX0_isCore 13 = .ok (.invokestatic 49, 3) := by decide +kernel
theorem dX0_isCore_16 : decode cX0_isCore 16 = .ok (.ireturn, 1) := by decide +kernel
theorem dX0_core_0 : decode cX0_core 0 = .ok (.aload_n 0, 1) := by decide +kernel
theorem dX0_core_1 : decode cX0_core 1 = .ok (.invokevirtual 70, 3) := by decide +kernel
theorem dX0_core_4 : decode cX0_core 4 = .ok (.iconst 0, 1) := by decide +kernel
theorem dX0_core_5 : decode cX0_core 5 = .ok (.istore_n 2, 1) := by decide +kernel
theorem dX0_core_6 : decode cX0_core 6 = .ok (.iconst 0, 1) := by decide +kernel
theorem dX0_core_7 : decode cX0_core 7 = .ok (.istore_n 3, 1) := by decide +kernel
theorem dX0_core_8 : decode cX0_core 8 = .ok (.iload_n 3, 1) := by decide +kernel
theorem dX0_core_9 : decode cX0_core 9 = .ok (.sipush 128, 3) := by decide +kernel
theorem dX0_core_12 : decode cX0_core 12 = .ok (.if_icmp .ge 27, 3) := by decide +kernel
theorem dX0_core_15 : decode cX0_core 15 = .ok (.aload_n 0, 1) := by decide +kernel
theorem dX0_core_16 : decode cX0_core 16 = .ok (.iload_n 3, 1) := by decide +kernel
theorem dX0_core_17 : decode cX0_core 17 = .ok (.invokevirtual 73, 3) := by decide +kernel
theorem dX0_core_20 : decode cX0_core 20 = .ok (.ifCond .eq 13, 3) := by decide +kernel
theorem dX0_core_23 : decode cX0_core 23 = .ok (.iload_n 2, 1) := by decide +kernel
theorem dX0_core_24 : decode cX0_core 24 = .ok (.iload_n 1, 1) := by decide +kernel
theorem dX0_core_25 : decode cX0_core 25 = .ok (.if_icmp .ne 5, 3) := by decide +kernel
theorem dX0_core_28 : decode cX0_core 28 = .ok (.iload_n 3, 1) := by decide +kernel
theorem dX0_core_29 : decode cX0_core 29 = .ok (.ireturn, 1) := by decide +kernel
theorem dX0_core_30 : decode cX0_core 30 = .ok (.iinc 2 1, 3) := by decide +kernel
theorem dX0_core_33 : decode cX0_core 33 = .ok (.iinc 3 1, 3) := by decide +kernel
theorem dX0_core_36 : decode cX0_core 36 = .ok (.goto (-28), 3) := by decide +kernel
theorem dX0_core_39 : decode cX0_core 39 = .ok (.iconst (-1), 1) := by decide +kernel
theorem dX0_core_40 : decode cX0_core 40 = .ok (.ireturn, 1) := by decide +kernel
theorem dX0_repairs_0 : decode cX0_repairs 0 = .ok (.aload_n 0, 1) := by decide +kernel
theorem dX0_repairs_1 : decode cX0_repairs 1 = .ok (.invokevirtual 70, 3) := by decide +kernel
theorem dX0_repairs_4 : decode cX0_repairs 4 = .ok (.iconst 0, 1) := by decide +kernel
theorem dX0_repairs_5 : decode cX0_repairs 5 = .ok (.istore_n 1, 1) := by decide +kernel
theorem dX0_repairs_6 : decode cX0_repairs 6 = .ok (.iconst 0, 1) := by decide +kernel
theorem dX0_repairs_7 : decode cX0_repairs 7 = .ok (.istore_n 2, 1) := by decide +kernel
theorem dX0_repairs_8 : decode cX0_repairs 8 = .ok (.iload_n 2, 1) := by decide +kernel
theorem dX0_repairs_9 : decode cX0_repairs 9 = .ok (.sipush 128, 3) := by decide +kernel
theorem dX0_repairs_12 : decode cX0_repairs 12 = .ok (.if_icmp .ge 25, 3) := by decide +kernel
theorem dX0_repairs_15 : decode cX0_repairs 15 = .ok (.iload_n 1, 1) := by decide +kernel
theorem dX0_repairs_16 : decode cX0_repairs 16 = .ok (.aload_n 0, 1) := by decide +kernel
theorem dX0_repairs_17 : decode cX0_repairs 17 = .ok (.iload_n 2, 1) := by decide +kernel
theorem dX0_repairs_18 : decode cX0_repairs 18 = .ok (.invokevirtual 76, 3) := by decide +kernel
theorem dX0_repairs_21 : decode cX0_repairs 21 = .ok (.ifCond .eq 7, 3) := by decide +kernel
theorem dX0_repairs_24 : decode cX0_repairs 24 = .ok (.iconst 1, 1) := by decide +kernel
theorem dX0_repairs_25 : decode cX0_repairs 25 = .ok (.goto 4, 3) := by decide +kernel
theorem dX0_repairs_28 : decode cX0_repairs 28 = .ok (.iconst 0, 1) := by decide +kernel
theorem dX0_repairs_29 : decode cX0_repairs 29 = .ok (.iadd, 1) := by decide +kernel
theorem dX0_repairs_30 : decode cX0_repairs 30 = .ok (.istore_n 1, 1) := by decide +kernel
theorem dX0_repairs_31 : decode cX0_repairs 31 = .ok (.iinc 2 1, 3) := by decide +kernel
theorem dX0_repairs_34 : decode cX0_repairs 34 = .ok (.goto (-26), 3) := by decide +kernel
theorem dX0_repairs_37 : decode cX0_repairs 37 = .ok (.iload_n 1, 1) := by decide +kernel
theorem dX0_repairs_38 : decode cX0_repairs 38 = .ok (.ireturn, 1) := by decide +kernel
theorem dX0_isRepair_0 : decode cX0_isRepair 0 = .ok (.aload_n 0, 1) := by decide +kernel
theorem dX0_isRepair_1 : decode cX0_isRepair 1 = .ok (.getfield 23, 3) := by decide +kernel
theorem dX0_isRepair_4 : decode cX0_isRepair 4 = .ok (.iconst 0, 1) := by decide +kernel
theorem dX0_isRepair_5 : decode cX0_isRepair 5 = .ok (.laload, 1) := by decide +kernel
theorem dX0_isRepair_6 : decode cX0_isRepair 6 = .ok (.aload_n 0, 1) := by decide +kernel
theorem dX0_isRepair_7 : decode cX0_isRepair 7 = .ok (.getfield 23, 3) := by decide +kernel
theorem dX0_isRepair_10 : decode cX0_isRepair 10 = .ok (.iconst 1, 1) := by decide +kernel
theorem dX0_isRepair_11 : decode cX0_isRepair 11 = .ok (.laload, 1) := by decide +kernel
theorem dX0_isRepair_12 : decode cX0_isRepair 12 = .ok (.iload_n 1, 1) := by decide +kernel
theorem dX0_isRepair_13 : decode cX0_isRepair 13 = .ok (.invokestatic 49, 3) := by decide +kernel
theorem dX0_isRepair_16 : decode cX0_isRepair 16 = .ok (.ireturn, 1) := by decide +kernel
theorem dX0_repair_0 : decode cX0_repair 0 = .ok (.aload_n 0, 1) := by decide +kernel
theorem dX0_repair_1 : decode cX0_repair 1 = .ok (.invokevirtual 70, 3) := by decide +kernel
theorem dX0_repair_4 : decode cX0_repair 4 = .ok (.iconst 0, 1) := by decide +kernel
theorem dX0_repair_5 : decode cX0_repair 5 = .ok (.istore_n 2, 1) := by decide +kernel
theorem dX0_repair_6 : decode cX0_repair 6 = .ok (.iconst 0, 1) := by decide +kernel
theorem dX0_repair_7 : decode cX0_repair 7 = .ok (.istore_n 3, 1) := by decide +kernel
theorem dX0_repair_8 : decode cX0_repair 8 = .ok (.iload_n 3, 1) := by decide +kernel
theorem dX0_repair_9 : decode cX0_repair 9 = .ok (.sipush 128, 3) := by decide +kernel
theorem dX0_repair_12 : decode cX0_repair 12 = .ok (.if_icmp .ge 27, 3) := by decide +kernel
theorem dX0_repair_15 : decode cX0_repair 15 = .ok (.aload_n 0, 1) := by decide +kernel
theorem dX0_repair_16 : decode cX0_repair 16 = .ok (.iload_n 3, 1) := by decide +kernel
theorem dX0_repair_17 : decode cX0_repair 17 = .ok (.invokevirtual 76, 3) := by decide +kernel
theorem dX0_repair_20 : decode cX0_repair 20 = .ok (.ifCond .eq 13, 3) := by decide +kernel
theorem dX0_repair_23 : decode cX0_repair 23 = .ok (.iload_n 2, 1) := by decide +kernel
theorem dX0_repair_24 : decode cX0_repair 24 = .ok (.iload_n 1, 1) := by decide +kernel
theorem dX0_repair_25 : decode cX0_repair 25 = .ok (.if_icmp .ne 5, 3) := by decide +kernel
theorem dX0_repair_28 : decode cX0_repair 28 = .ok (.iload_n 3, 1) := by decide +kernel
theorem dX0_repair_29 : decode cX0_repair 29 = .ok (.ireturn, 1) := by decide +kernel
theorem dX0_repair_30 : decode cX0_repair 30 = .ok (.iinc 2 1, 3) := by decide +kernel
theorem dX0_repair_33 : decode cX0_repair 33 = .ok (.iinc 3 1, 3) := by decide +kernel
theorem dX0_repair_36 : decode cX0_repair 36 = .ok (.goto (-28), 3) := by decide +kernel
theorem dX0_repair_39 : decode cX0_repair 39 = .ok (.iconst (-1), 1) := by decide +kernel
theorem dX0_repair_40 : decode cX0_repair 40 = .ok (.ireturn, 1) := by decide +kernel
theorem dX0_guilty_0 : decode cX0_guilty 0 = .ok (.aload_n 0, 1) := by decide +kernel
theorem dX0_guilty_1 : decode cX0_guilty 1 = .ok (.invokevirtual 70, 3) := by decide +kernel
theorem dX0_guilty_4 : decode cX0_guilty 4 = .ok (.iconst 0, 1) := by decide +kernel
theorem dX0_guilty_5 : decode cX0_guilty 5 = .ok (.istore_n 1, 1) := by decide +kernel
theorem dX0_guilty_6 : decode cX0_guilty 6 = .ok (.iconst 0, 1) := by decide +kernel
theorem dX0_guilty_7 : decode cX0_guilty 7 = .ok (.istore_n 2, 1) := by decide +kernel
theorem dX0_guilty_8 : decode cX0_guilty 8 = .ok (.iload_n 2, 1) := by decide +kernel
theorem dX0_guilty_9 : decode cX0_guilty 9 = .ok (.sipush 128, 3) := by decide +kernel
theorem dX0_guilty_12 : decode cX0_guilty 12 = .ok (.if_icmp .ge 25, 3) := by decide +kernel
theorem dX0_guilty_15 : decode cX0_guilty 15 = .ok (.iload_n 1, 1) := by decide +kernel
theorem dX0_guilty_16 : decode cX0_guilty 16 = .ok (.aload_n 0, 1) := by decide +kernel
theorem dX0_guilty_17 : decode cX0_guilty 17 = .ok (.iload_n 2, 1) := by decide +kernel
theorem dX0_guilty_18 : decode cX0_guilty 18 = .ok (.invokevirtual 73, 3) := by decide +kernel
theorem dX0_guilty_21 : decode cX0_guilty 21 = .ok (.ifCond .eq 7, 3) := by decide +kernel
theorem dX0_guilty_24 : decode cX0_guilty 24 = .ok (.iload_n 2, 1) := by decide +kernel
theorem dX0_guilty_25 : decode cX0_guilty 25 = .ok (.goto 4, 3) := by decide +kernel
theorem dX0_guilty_28 : decode cX0_guilty 28 = .ok (.iconst 0, 1) := by decide +kernel
theorem dX0_guilty_29 : decode cX0_guilty 29 = .ok (.ior, 1) := by decide +kernel
theorem dX0_guilty_30 : decode cX0_guilty 30 = .ok (.istore_n 1, 1) := by decide +kernel
theorem dX0_guilty_31 : decode cX0_guilty 31 = .ok (.iinc 2 1, 3) := by decide +kernel
theorem dX0_guilty_34 : decode cX0_guilty 34 = .ok (.goto (-26), 3) := by decide +kernel
theorem dX0_guilty_37 : decode cX0_guilty 37 = .ok (.iload_n 1, 1) := by decide +kernel
theorem dX0_guilty_38 : decode cX0_guilty 38 = .ok (.ireturn, 1) := by decide +kernel
theorem dX0_central_0 : decode cX0_central 0 = .ok (.aload_n 0, 1) := by decide +kernel
theorem dX0_central_1 : decode cX0_central 1 = .ok (.invokevirtual 70, 3) := by decide +kernel
theorem dX0_central_4 : decode cX0_central 4 = .ok (.aload_n 0, 1) := by decide +kernel
theorem dX0_central_5 : decode cX0_central 5 = .ok (.getfield 26, 3) := by decide +kernel
theorem dX0_central_8 : decode cX0_central 8 = .ok (.istore_n 1, 1) := by decide +kernel
theorem dX0_central_9 : decode cX0_central 9 = .ok (.iconst 0, 1) := by decide +kernel
theorem dX0_central_10 : decode cX0_central 10 = .ok (.istore_n 2, 1) := by decide +kernel
theorem dX0_central_11 : decode cX0_central 11 = .ok (.iload_n 2, 1) := by decide +kernel
theorem dX0_central_12 : decode cX0_central 12 = .ok (.sipush 128, 3) := by decide +kernel
theorem dX0_central_15 : decode cX0_central 15 = .ok (.if_icmp .ge 26, 3) := by decide +kernel
theorem dX0_central_18 : decode cX0_central 18 = .ok (.iload_n 1, 1) := by decide +kernel
theorem dX0_central_19 : decode cX0_central 19 = .ok (.aload_n 0, 1) := by decide +kernel
theorem dX0_central_20 : decode cX0_central 20 = .ok (.iload_n 2, 1) := by decide +kernel
theorem dX0_central_21 : decode cX0_central 21 = .ok (.invokevirtual 73, 3) := by decide +kernel
theorem dX0_central_24 : decode cX0_central 24 = .ok (.ifCond .eq 7, 3) := by decide +kernel
theorem dX0_central_27 : decode cX0_central 27 = .ok (.iload_n 2, 1) := by decide +kernel
theorem dX0_central_28 : decode cX0_central 28 = .ok (.goto 5, 3) := by decide +kernel
theorem dX0_central_31 : decode cX0_central 31 = .ok (.bipush 127, 2) := by decide +kernel
theorem dX0_central_33 : decode cX0_central 33 = .ok (.iand, 1) := by decide +kernel
theorem dX0_central_34 : decode cX0_central 34 = .ok (.istore_n 1, 1) := by decide +kernel
theorem dX0_central_35 : decode cX0_central 35 = .ok (.iinc 2 1, 3) := by decide +kernel
theorem dX0_central_38 : decode cX0_central 38 = .ok (.goto (-27), 3) := by decide +kernel
theorem dX0_central_41 : decode cX0_central 41 = .ok (.iload_n 1, 1) := by decide +kernel
theorem dX0_central_42 : decode cX0_central 42 = .ok (.ireturn, 1) := by decide +kernel
theorem dX0_smallestCore_0 : decode cX0_smallestCore 0 = .ok (.aload_n 0, 1) := by decide +kernel
theorem dX0_smallestCore_1 : decode cX0_smallestCore 1 = .ok (.invokevirtual 70, 3) := by decide +kernel
theorem dX0_smallestCore_4 : decode cX0_smallestCore 4 = .ok (.iconst (-1), 1) := by decide +kernel
theorem dX0_smallestCore_5 : decode cX0_smallestCore 5 = .ok (.istore_n 1, 1) := by decide +kernel
theorem dX0_smallestCore_6 : decode cX0_smallestCore 6 = .ok (.iconst 0, 1) := by decide +kernel
theorem dX0_smallestCore_7 : decode cX0_smallestCore 7 = .ok (.istore_n 2, 1) := by decide +kernel
theorem dX0_smallestCore_8 : decode cX0_smallestCore 8 = .ok (.iload_n 2, 1) := by decide +kernel
theorem dX0_smallestCore_9 : decode cX0_smallestCore 9 = .ok (.sipush 128, 3) := by decide +kernel
theorem dX0_smallestCore_12 : decode cX0_smallestCore 12 = .ok (.if_icmp .ge 41, 3) := by decide +kernel
theorem dX0_smallestCore_15 : decode cX0_smallestCore 15 = .ok (.aload_n 0, 1) := by decide +kernel
theorem dX0_smallestCore_16 : decode cX0_smallestCore 16 = .ok (.iload_n 2, 1) := by decide +kernel
theorem dX0_smallestCore_17 : decode cX0_smallestCore 17 = .ok (.invokevirtual 73, 3) := by decide +kernel
theorem dX0_smallestCore_20 : decode cX0_smallestCore 20 = .ok (.ifCond .eq 10, 3) := by decide +kernel
theorem dX0_smallestCore_23 : decode cX0_smallestCore 23 = .ok (.iload_n 2, 1) := by decide +kernel
theorem dX0_smallestCore_24 : decode cX0_smallestCore 24 = .ok (.invokestatic 79, 3) := by decide +kernel
theorem dX0_smallestCore_27 : decode cX0_smallestCore 27 = .ok (.goto 4, 3) := by decide +kernel
theorem dX0_smallestCore_30 : decode cX0_smallestCore 30 = .ok (.iconst (-1), 1) := by decide +kernel
theorem dX0_smallestCore_31 : decode cX0_smallestCore 31 = .ok (.istore_n 3, 1) := by decide +kernel
theorem dX0_smallestCore_32 : decode cX0_smallestCore 32 = .ok (.iload_n 3, 1) := by decide +kernel
theorem dX0_smallestCore_33 : decode cX0_smallestCore 33 = .ok (.ifCond .lt 14, 3) := by decide +kernel
theorem dX0_smallestCore_36 : decode cX0_smallestCore 36 = .ok (.iload_n 1, 1) := by decide +kernel
theorem dX0_smallestCore_37 : decode cX0_smallestCore 37 = .ok (.ifCond .lt 8, 3) := by decide +kernel
theorem dX0_smallestCore_40 : decode cX0_smallestCore 40 = .ok (.iload_n 3, 1) := by decide +kernel
theorem dX0_smallestCore_41 : decode cX0_smallestCore 41 = .ok (.iload_n 1, 1) := by decide +kernel
theorem dX0_smallestCore_42 : decode cX0_smallestCore 42 = .ok (.if_icmp .ge 5, 3) := by decide +kernel
theorem dX0_smallestCore_45 : decode cX0_smallestCore 45 = .ok (.iload_n 3, 1) := by decide +kernel
theorem dX0_smallestCore_46 : decode cX0_smallestCore 46 = .ok (.istore_n 1, 1) := by decide +kernel
theorem dX0_smallestCore_47 : decode cX0_smallestCore 47 = .ok (.iinc 2 1, 3) := by decide +kernel
theorem dX0_smallestCore_50 : decode cX0_smallestCore 50 = .ok (.goto (-42), 3) := by decide +kernel
theorem dX0_smallestCore_53 : decode cX0_smallestCore 53 = .ok (.iload_n 1, 1) := by decide +kernel
theorem dX0_smallestCore_54 : decode cX0_smallestCore 54 = .ok (.ireturn, 1) := by decide +kernel
theorem dX0_ones_0 : decode cX0_ones 0 = .ok (.iconst 0, 1) := by decide +kernel
theorem dX0_ones_1 : decode cX0_ones 1 = .ok (.istore_n 1, 1) := by decide +kernel
theorem dX0_ones_2 : decode cX0_ones 2 = .ok (.iconst 0, 1) := by decide +kernel
theorem dX0_ones_3 : decode cX0_ones 3 = .ok (.istore_n 2, 1) := by decide +kernel
theorem dX0_ones_4 : decode cX0_ones 4 = .ok (.iload_n 2, 1) := by decide +kernel
theorem dX0_ones_5 : decode cX0_ones 5 = .ok (.bipush 7, 2) := by decide +kernel
theorem dX0_ones_7 : decode cX0_ones 7 = .ok (.if_icmp .ge 17, 3) := by decide +kernel
theorem dX0_ones_10 : decode cX0_ones 10 = .ok (.iload_n 1, 1) := by decide +kernel
theorem dX0_ones_11 : decode cX0_ones 11 = .ok (.iload_n 0, 1) := by decide +kernel
theorem dX0_ones_12 : decode cX0_ones 12 = .ok (.iload_n 2, 1) := by decide +kernel
theorem dX0_ones_13 : decode cX0_ones 13 = .ok (.ishr, 1) := by decide +kernel
theorem dX0_ones_14 : decode cX0_ones 14 = .ok (.iconst 1, 1) := by decide +kernel
theorem dX0_ones_15 : decode cX0_ones 15 = .ok (.iand, 1) := by decide +kernel
theorem dX0_ones_16 : decode cX0_ones 16 = .ok (.iadd, 1) := by decide +kernel
theorem dX0_ones_17 : decode cX0_ones 17 = .ok (.istore_n 1, 1) := by decide +kernel
theorem dX0_ones_18 : decode cX0_ones 18 = .ok (.iinc 2 1, 3) := by decide +kernel
theorem dX0_ones_21 : decode cX0_ones 21 = .ok (.goto (-17), 3) := by decide +kernel
theorem dX0_ones_24 : decode cX0_ones 24 = .ok (.iload_n 1, 1) := by decide +kernel
theorem dX0_ones_25 : decode cX0_ones 25 = .ok (.ireturn, 1) := by decide +kernel
theorem dX0_mostTogether_0 : decode cX0_mostTogether 0 = .ok (.aload_n 0, 1) := by decide +kernel
theorem dX0_mostTogether_1 : decode cX0_mostTogether 1 = .ok (.invokevirtual 70, 3) := by decide +kernel
theorem dX0_mostTogether_4 : decode cX0_mostTogether 4 = .ok (.iconst 0, 1) := by decide +kernel
theorem dX0_mostTogether_5 : decode cX0_mostTogether 5 = .ok (.istore_n 1, 1) := by decide +kernel
theorem dX0_mostTogether_6 : decode cX0_mostTogether 6 = .ok (.iconst 0, 1) := by decide +kernel
theorem dX0_mostTogether_7 : decode cX0_mostTogether 7 = .ok (.istore_n 2, 1) := by decide +kernel
theorem dX0_mostTogether_8 : decode cX0_mostTogether 8 = .ok (.iload_n 2, 1) := by decide +kernel
theorem dX0_mostTogether_9 : decode cX0_mostTogether 9 = .ok (.sipush 128, 3) := by decide +kernel
theorem dX0_mostTogether_12 : decode cX0_mostTogether 12 = .ok (.if_icmp .ge 44, 3) := by decide +kernel
theorem dX0_mostTogether_15 : decode cX0_mostTogether 15 = .ok (.aload_n 0, 1) := by decide +kernel
theorem dX0_mostTogether_16 : decode cX0_mostTogether 16 = .ok (.iload_n 2, 1) := by decide +kernel
theorem dX0_mostTogether_17 : decode cX0_mostTogether 17 = .ok (.invokevirtual 76, 3) := by decide +kernel
theorem dX0_mostTogether_20 : decode cX0_mostTogether 20 = .ok (.ifCond .eq 17, 3) := by decide +kernel
theorem dX0_mostTogether_23 : decode cX0_mostTogether 23 = .ok (.aload_n 0, 1) := by decide +kernel
theorem dX0_mostTogether_24 : decode cX0_mostTogether 24 = .ok (.getfield 26, 3) := by decide +kernel
theorem dX0_mostTogether_27 : decode cX0_mostTogether 27 = .ok (.iload_n 2, 1) := by decide +kernel
theorem dX0_mostTogether_28 : decode cX0_mostTogether 28 = .ok (.iconst (-1), 1) := by decide +kernel
theorem dX0_mostTogether_29 : decode cX0_mostTogether 29 = .ok (.ixor, 1) := by decide +kernel
theorem dX0_mostTogether_30 : decode cX0_mostTogether 30 = .ok (.iand, 1) := by decide +kernel
theorem dX0_mostTogether_31 : decode cX0_mostTogether 31 = .ok (.invokestatic 79, 3) := by decide +kernel
theorem dX0_mostTogether_34 : decode cX0_mostTogether 34 = .ok (.goto 4, 3) := by decide +kernel
theorem dX0_mostTogether_37 : decode cX0_mostTogether 37 = .ok (.iconst 0, 1) := by decide +kernel
theorem dX0_mostTogether_38 : decode cX0_mostTogether 38 = .ok (.istore_n 3, 1) := by decide +kernel
theorem dX0_mostTogether_39 : decode cX0_mostTogether 39 = .ok (.iload_n 3, 1) := by decide +kernel
theorem dX0_mostTogether_40 : decode cX0_mostTogether 40 = .ok (.iload_n 1, 1) := by decide +kernel
theorem dX0_mostTogether_41 : decode cX0_mostTogether 41 = .ok (.if_icmp .le 7, 3) := by decide +kernel
theorem dX0_mostTogether_44 : decode cX0_mostTogether 44 = .ok (.iload_n 3, 1) := by decide +kernel
theorem dX0_mostTogether_45 : decode cX0_mostTogether 45 = .ok (.goto 4, 3) := by decide +kernel
theorem dX0_mostTogether_48 : decode cX0_mostTogether 48 = .ok (.iload_n 1, 1) := by decide +kernel
theorem dX0_mostTogether_49 : decode cX0_mostTogether 49 = .ok (.istore_n 1, 1) := by decide +kernel
theorem dX0_mostTogether_50 : decode cX0_mostTogether 50 = .ok (.iinc 2 1, 3) := by decide +kernel
theorem dX0_mostTogether_53 : decode cX0_mostTogether 53 = .ok (.goto (-45), 3) := by decide +kernel
theorem dX0_mostTogether_56 : decode cX0_mostTogether 56 = .ok (.iload_n 1, 1) := by decide +kernel
theorem dX0_mostTogether_57 : decode cX0_mostTogether 57 = .ok (.ireturn, 1) := by decide +kernel
theorem dX0_follows_0 : decode cX0_follows 0 = .ok (.iload_n 1, 1) := by decide +kernel
theorem dX0_follows_1 : decode cX0_follows 1 = .ok (.invokestatic 30, 3) := by decide +kernel
theorem dX0_follows_4 : decode cX0_follows 4 = .ok (.ifCond .eq 10, 3) := by decide +kernel
theorem dX0_follows_7 : decode cX0_follows 7 = .ok (.iload_n 2, 1) := by decide +kernel
theorem dX0_follows_8 : decode cX0_follows 8 = .ok (.invokestatic 30, 3) := by decide +kernel
theorem dX0_follows_11 : decode cX0_follows 11 = .ok (.ifCond .ne 5, 3) := by decide +kernel
theorem dX0_follows_14 : decode cX0_follows 14 = .ok (.iconst 0, 1) := by decide +kernel
theorem dX0_follows_15 : decode cX0_follows 15 = .ok (.ireturn, 1) := by decide +kernel
theorem dX0_follows_16 : decode cX0_follows 16 = .ok (.aload_n 0, 1) := by decide +kernel
theorem dX0_follows_17 : decode cX0_follows 17 = .ok (.aload_n 0, 1) := by decide +kernel
theorem dX0_follows_18 : decode cX0_follows 18 = .ok (.getfield 26, 3) := by decide +kernel
theorem dX0_follows_21 : decode cX0_follows 21 = .ok (.iload_n 2, 1) := by decide +kernel
theorem dX0_follows_22 : decode cX0_follows 22 = .ok (.iload_n 1, 1) := by decide +kernel
theorem dX0_follows_23 : decode cX0_follows 23 = .ok (.invokevirtual 45, 3) := by decide +kernel
theorem dX0_follows_26 : decode cX0_follows 26 = .ok (.ifCond .ge 7, 3) := by decide +kernel
theorem dX0_follows_29 : decode cX0_follows 29 = .ok (.iconst 1, 1) := by decide +kernel
theorem dX0_follows_30 : decode cX0_follows 30 = .ok (.goto 4, 3) := by decide +kernel
theorem dX0_follows_33 : decode cX0_follows 33 = .ok (.iconst 0, 1) := by decide +kernel
theorem dX0_follows_34 : decode cX0_follows 34 = .ok (.ireturn, 1) := by decide +kernel
end
section
set_option maxRecDepth 100000
theorem dX1_init_0 : decode cX1_init 0 = .ok (.aload_n 0, 1) := by decide +kernel
theorem dX1_init_1 : decode cX1_init 1 = .ok (.invokespecial 1, 3) := by decide +kernel
theorem dX1_init_4 : decode cX1_init 4 = .ok (.aload_n 0, 1) := by decide +kernel
theorem dX1_init_5 : decode cX1_init 5 = .ok (.bipush 7, 2) := by decide +kernel
theorem dX1_init_7 : decode cX1_init 7 = .ok (.newarray .boolean, 2) := by decide +kernel
theorem dX1_init_9 : decode cX1_init 9 = .ok (.putfield 7, 3) := by decide +kernel
theorem dX1_init_12 : decode cX1_init 12 = .ok (.aload_n 0, 1) := by decide +kernel
theorem dX1_init_13 : decode cX1_init 13 = .ok (.bipush 7, 2) := by decide +kernel
theorem dX1_init_15 : decode cX1_init 15 = .ok (.newarray .int, 2) := by decide +kernel
theorem dX1_init_17 : decode cX1_init 17 = .ok (.putfield 13, 3) := by decide +kernel
theorem dX1_init_20 : decode cX1_init 20 = .ok (.aload_n 0, 1) := by decide +kernel
theorem dX1_init_21 : decode cX1_init 21 = .ok (.bipush 7, 2) := by decide +kernel
theorem dX1_init_23 : decode cX1_init 23 = .ok (.newarray .int, 2) := by decide +kernel
theorem dX1_init_25 : decode cX1_init 25 = .ok (.putfield 17, 3) := by decide +kernel
theorem dX1_init_28 : decode cX1_init 28 = .ok (.aload_n 0, 1) := by decide +kernel
theorem dX1_init_29 : decode cX1_init 29 = .ok (.sipush 128, 3) := by decide +kernel
theorem dX1_init_32 : decode cX1_init 32 = .ok (.newarray .boolean, 2) := by decide +kernel
theorem dX1_init_34 : decode cX1_init 34 = .ok (.putfield 20, 3) := by decide +kernel
theorem dX1_init_37 : decode cX1_init 37 = .ok (.return_, 1) := by decide +kernel
theorem dX1_add_0 : decode cX1_add 0 = .ok (.aload_n 0, 1) := by decide +kernel
theorem dX1_add_1 : decode cX1_add 1 = .ok (.iload_n 1, 1) := by decide +kernel
theorem dX1_add_2 : decode cX1_add 2 = .ok (.invokevirtual 23, 3) := by decide +kernel
theorem dX1_add_5 : decode cX1_add 5 = .ok (.ifCond .eq 11, 3) := by decide +kernel
theorem dX1_add_8 : decode cX1_add 8 = .ok (.aload_n 0, 1) := by decide +kernel
theorem dX1_add_9 : decode cX1_add 9 = .ok (.iload_n 2, 1) := by decide +kernel
theorem dX1_add_10 : decode cX1_add 10 = .ok (.invokevirtual 23, 3) := by decide +kernel
theorem dX1_add_13 : decode cX1_add 13 = .ok (.ifCond .ne 5, 3) := by decide +kernel
theorem dX1_add_16 : decode cX1_add 16 = .ok (.iconst (-1), 1) := by decide +kernel
theorem dX1_add_17 : decode cX1_add 17 = .ok (.ireturn, 1) := by decide +kernel
theorem dX1_add_18 : decode cX1_add 18 = .ok (.iconst 0, 1) := by decide +kernel
theorem dX1_add_19 : decode cX1_add 19 = .ok (.istore_n 3, 1) := by decide +kernel
theorem dX1_add_20 : decode cX1_add 20 = .ok (.iload_n 3, 1) := by decide +kernel
theorem dX1_add_21 : decode cX1_add 21 = .ok (.bipush 7, 2) := by decide +kernel
theorem dX1_add_23 : decode cX1_add 23 = .ok (.if_icmp .ge 41, 3) := by decide +kernel
theorem dX1_add_26 : decode cX1_add 26 = .ok (.aload_n 0, 1) := by decide +kernel
theorem dX1_add_27 : decode cX1_add 27 = .ok (.getfield 7, 3) := by decide +kernel
theorem dX1_add_30 : decode cX1_add 30 = .ok (.iload_n 3, 1) := by decide +kernel
theorem dX1_add_31 : decode cX1_add 31 = .ok (.baload, 1) := by decide +kernel
theorem dX1_add_32 : decode cX1_add 32 = .ok (.ifCond .ne 26, 3) := by decide +kernel
theorem dX1_add_35 : decode cX1_add 35 = .ok (.aload_n 0, 1) := by decide +kernel
theorem dX1_add_36 : decode cX1_add 36 = .ok (.getfield 7, 3) := by decide +kernel
theorem dX1_add_39 : decode cX1_add 39 = .ok (.iload_n 3, 1) := by decide +kernel
theorem dX1_add_40 : decode cX1_add 40 = .ok (.iconst 1, 1) := by decide +kernel
theorem dX1_add_41 : decode cX1_add 41 = .ok (.bastore, 1) := by decide +kernel
theorem dX1_add_42 : decode cX1_add 42 = .ok (.aload_n 0, 1) := by decide +kernel
theorem dX1_add_43 : decode cX1_add 43 = .ok (.getfield 13, 3) := by decide +kernel
theorem dX1_add_46 : decode cX1_add 46 = .ok (.iload_n 3, 1) := by decide +kernel
theorem dX1_add_47 : decode cX1_add 47 = .ok (.iload_n 1, 1) := by decide +kernel
theorem dX1_add_48 : decode cX1_add 48 = .ok (.iastore, 1) := by decide +kernel
theorem dX1_add_49 : decode cX1_add 49 = .ok (.aload_n 0, 1) := by decide +kernel
theorem dX1_add_50 : decode cX1_add 50 = .ok (.getfield 17, 3) := by decide +kernel
theorem dX1_add_53 : decode cX1_add 53 = .ok (.iload_n 3, 1) := by decide +kernel
theorem dX1_add_54 : decode cX1_add 54 = .ok (.iload_n 2, 1) := by decide +kernel
theorem dX1_add_55 : decode cX1_add 55 = .ok (.iastore, 1) := by decide +kernel
theorem dX1_add_56 : decode cX1_add 56 = .ok (.iload_n 3, 1) := by decide +kernel
theorem dX1_add_57 : decode cX1_add 57 = .ok (.ireturn, 1) := by decide +kernel
theorem dX1_add_58 : decode cX1_add 58 = .ok (.iinc 3 1, 3) := by decide +kernel
theorem dX1_add_61 : decode cX1_add 61 = .ok (.goto (-41), 3) := by decide +kernel
theorem dX1_add_64 : decode cX1_add 64 = .ok (.bipush (-2), 2) := by decide +kernel
theorem dX1_add_66 : decode cX1_add 66 = .ok (.ireturn, 1) := by decide +kernel
theorem dX1_letters_0 : decode cX1_letters 0 = .ok (.iload_n 1, 1) := by decide +kernel
theorem dX1_letters_1 : decode cX1_letters 1 = .ok (.ifCond .lt 13, 3) := by decide +kernel
theorem dX1_letters_4 : decode cX1_letters 4 = .ok (.iload_n 1, 1) := by decide +kernel
theorem dX1_letters_5 : decode cX1_letters 5 = .ok (.bipush 15, 2) := by decide +kernel
theorem dX1_letters_7 : decode cX1_letters 7 = .ok (.if_icmp .gt 7, 3) := by decide +kernel
theorem dX1_letters_10 : decode cX1_letters 10 = .ok (.iconst 1, 1) := by decide +kernel
theorem dX1_letters_11 : decode cX1_letters 11 = .ok (.goto 4, 3) := by decide +kernel
theorem dX1_letters_14 : decode cX1_letters 14 = .ok (.iconst 0, 1) := by decide +kernel
theorem dX1_letters_15 : decode cX1_letters 15 = .ok (.ireturn, 1) := by decide +kernel
theorem dX1_remove_0 : decode cX1_remove 0 = .ok (.iload_n 1, 1) := by decide +kernel
theorem dX1_remove_1 : decode cX1_remove 1 = .ok (.ifCond .lt 18, 3) := by decide +kernel
theorem dX1_remove_4 : decode cX1_remove 4 = .ok (.iload_n 1, 1) := by decide +kernel
theorem dX1_remove_5 : decode cX1_remove 5 = .ok (.bipush 6, 2) := by decide +kernel
theorem dX1_remove_7 : decode cX1_remove 7 = .ok (.if_icmp .gt 12, 3) := by decide +kernel
theorem dX1_remove_10 : decode cX1_remove 10 = .ok (.aload_n 0, 1) := by decide +kernel
theorem dX1_remove_11 : decode cX1_remove 11 = .ok (.getfield 7, 3) := by decide +kernel
theorem dX1_remove_14 : decode cX1_remove 14 = .ok (.iload_n 1, 1) := by decide +kernel
theorem dX1_remove_15 : decode cX1_remove 15 = .ok (.baload, 1) := by decide +kernel
theorem dX1_remove_16 : decode cX1_remove 16 = .ok (.ifCond .ne 5, 3) := by decide +kernel
theorem dX1_remove_19 : decode cX1_remove 19 = .ok (.iconst 0, 1) := by decide +kernel
theorem dX1_remove_20 : decode cX1_remove 20 = .ok (.ireturn, 1) := by decide +kernel
theorem dX1_remove_21 : decode cX1_remove 21 = .ok (.aload_n 0, 1) := by decide +kernel
theorem dX1_remove_22 : decode cX1_remove 22 = .ok (.getfield 7, 3) := by decide +kernel
theorem dX1_remove_25 : decode cX1_remove 25 = .ok (.iload_n 1, 1) := by decide +kernel
theorem dX1_remove_26 : decode cX1_remove 26 = .ok (.iconst 0, 1) := by decide +kernel
theorem dX1_remove_27 : decode cX1_remove 27 = .ok (.bastore, 1) := by decide +kernel
theorem dX1_remove_28 : decode cX1_remove 28 = .ok (.iconst 1, 1) := by decide +kernel
theorem dX1_remove_29 : decode cX1_remove 29 = .ok (.ireturn, 1) := by decide +kernel
theorem dX1_clauses_0 : decode cX1_clauses 0 = .ok (.iconst 0, 1) := by decide +kernel
theorem dX1_clauses_1 : decode cX1_clauses 1 = .ok (.istore_n 1, 1) := by decide +kernel
theorem dX1_clauses_2 : decode cX1_clauses 2 = .ok (.iconst 0, 1) := by decide +kernel
theorem dX1_clauses_3 : decode cX1_clauses 3 = .ok (.istore_n 2, 1) := by decide +kernel
theorem dX1_clauses_4 : decode cX1_clauses 4 = .ok (.iload_n 2, 1) := by decide +kernel
theorem dX1_clauses_5 : decode cX1_clauses 5 = .ok (.bipush 7, 2) := by decide +kernel
theorem dX1_clauses_7 : decode cX1_clauses 7 = .ok (.if_icmp .ge 28, 3) := by decide +kernel
theorem dX1_clauses_10 : decode cX1_clauses 10 = .ok (.aload_n 0, 1) := by decide +kernel
theorem dX1_clauses_11 : decode cX1_clauses 11 = .ok (.getfield 7, 3) := by decide +kernel
theorem dX1_clauses_14 : decode cX1_clauses 14 = .ok (.iload_n 2, 1) := by decide +kernel
theorem dX1_clauses_15 : decode cX1_clauses 15 = .ok (.baload, 1) := by decide +kernel
theorem dX1_clauses_16 : decode cX1_clauses 16 = .ok (.ifCond .eq 11, 3) := by decide +kernel
theorem dX1_clauses_19 : decode cX1_clauses 19 = .ok (.iload_n 1, 1) := by decide +kernel
theorem dX1_clauses_20 : decode cX1_clauses 20 = .ok (.iconst 1, 1) := by decide +kernel
theorem dX1_clauses_21 : decode cX1_clauses 21 = .ok (.iload_n 2, 1) := by decide +kernel
theorem dX1_clauses_22 : decode cX1_clauses 22 = .ok (.ishl, 1) := by decide +kernel
theorem dX1_clauses_23 : decode cX1_clauses 23 = .ok (.ior, 1) := by decide +kernel
theorem dX1_clauses_24 : decode cX1_clauses 24 = .ok (.goto 4, 3) := by decide +kernel
theorem dX1_clauses_27 : decode cX1_clauses 27 = .ok (.iload_n 1, 1) := by decide +kernel
theorem dX1_clauses_28 : decode cX1_clauses 28 = .ok (.istore_n 1, 1) := by decide +kernel
theorem dX1_clauses_29 : decode cX1_clauses 29 = .ok (.iinc 2 1, 3) := by decide +kernel
theorem dX1_clauses_32 : decode cX1_clauses 32 = .ok (.goto (-28), 3) := by decide +kernel
theorem dX1_clauses_35 : decode cX1_clauses 35 = .ok (.iload_n 1, 1) := by decide +kernel
theorem dX1_clauses_36 : decode cX1_clauses 36 = .ok (.ireturn, 1) := by decide +kernel
theorem dX1_consistent_0 : decode cX1_consistent 0 = .ok (.aload_n 0, 1) := by decide +kernel
theorem dX1_consistent_1 : decode cX1_consistent 1 = .ok (.iload_n 1, 1) := by decide +kernel
theorem dX1_consistent_2 : decode cX1_consistent 2 = .ok (.invokevirtual 31, 3) := by decide +kernel
theorem dX1_consistent_5 : decode cX1_consistent 5 = .ok (.ifCond .lt 7, 3) := by decide +kernel
theorem dX1_consistent_8 : decode cX1_consistent 8 = .ok (.iconst 1, 1) := by decide +kernel
theorem dX1_consistent_9 : decode cX1_consistent 9 = .ok (.goto 4, 3) := by decide +kernel
theorem dX1_consistent_12 : decode cX1_consistent 12 = .ok (.iconst 0, 1) := by decide +kernel
theorem dX1_consistent_13 : decode cX1_consistent 13 = .ok (.ireturn, 1) := by decide +kernel
theorem dX1_witness_0 : decode cX1_witness 0 = .ok (.iconst 0, 1) := by decide +kernel
theorem dX1_witness_1 : decode cX1_witness 1 = .ok (.istore_n 2, 1) := by decide +kernel
theorem dX1_witness_2 : decode cX1_witness 2 = .ok (.iload_n 2, 1) := by decide +kernel
theorem dX1_witness_3 : decode cX1_witness 3 = .ok (.bipush 16, 2) := by decide +kernel
theorem dX1_witness_5 : decode cX1_witness 5 = .ok (.if_icmp .ge 20, 3) := by decide +kernel
theorem dX1_witness_8 : decode cX1_witness 8 = .ok (.aload_n 0, 1) := by decide +kernel
theorem dX1_witness_9 : decode cX1_witness 9 = .ok (.iload_n 1, 1) := by decide +kernel
theorem dX1_witness_10 : decode cX1_witness 10 = .ok (.iload_n 2, 1) := by decide +kernel
theorem dX1_witness_11 : decode cX1_witness 11 = .ok (.invokevirtual 35, 3) := by decide +kernel
theorem dX1_witness_14 : decode cX1_witness 14 = .ok (.ifCond .eq 5, 3) := by decide +kernel
theorem dX1_witness_17 : decode cX1_witness 17 = .ok (.iload_n 2, 1) := by decide +kernel
theorem dX1_witness_18 : decode cX1_witness 18 = .ok (.ireturn, 1) := by decide +kernel
theorem dX1_witness_19 : decode cX1_witness 19 = .ok (.iinc 2 1, 3) := by decide +kernel
theorem dX1_witness_22 : decode cX1_witness 22 = .ok (.goto (-20), 3) := by decide +kernel
theorem dX1_witness_25 : decode cX1_witness 25 = .ok (.iconst (-1), 1) := by decide +kernel
theorem dX1_witness_26 : decode cX1_witness 26 = .ok (.ireturn, 1) := by decide +kernel
theorem dX1_allHold_0 : decode cX1_allHold 0 = .ok (.iconst 1, 1) := by decide +kernel
theorem dX1_allHold_1 : decode cX1_allHold 1 = .ok (.istore_n 3, 1) := by decide +kernel
theorem dX1_allHold_2 : decode cX1_allHold 2 = .ok (.iconst 0, 1) := by decide +kernel
theorem dX1_allHold_3 : decode cX1_allHold 3 = .ok (.istore 4, 2) := by decide +kernel
theorem dX1_allHold_5 : decode cX1_allHold 5 = .ok (.iload 4, 2) := by decide +kernel
theorem dX1_allHold_7 : decode cX1_allHold 7 = .ok (.bipush 7, 2) := by decide +kernel
theorem dX1_allHold_9 : decode cX1_allHold 9 = .ok (.if_icmp .ge 60, 3) := by decide +kernel
theorem dX1_allHold_12 : decode cX1_allHold 12 = .ok (.iload_n 3, 1) := by decide +kernel
theorem dX1_allHold_13 : decode cX1_allHold 13 = .ok (.ifCond .eq 48, 3) := by decide +kernel
theorem dX1_allHold_16 : decode cX1_allHold 16 = .ok (.iload_n 1, 1) := by decide +kernel
theorem dX1_allHold_17 : decode cX1_allHold 17 = .ok (.iload 4, 2) := by decide +kernel
theorem dX1_allHold_19 : decode cX1_allHold 19 = .ok (.ishr, 1) := by decide +kernel
theorem dX1_allHold_20 : decode cX1_allHold 20 = .ok (.iconst 1, 1) := by decide +kernel
theorem dX1_allHold_21 : decode cX1_allHold 21 = .ok (.iand, 1) := by decide +kernel
theorem dX1_allHold_22 : decode cX1_allHold 22 = .ok (.ifCond .eq 35, 3) := by decide +kernel
theorem dX1_allHold_25 : decode cX1_allHold 25 = .ok (.aload_n 0, 1) := by decide +kernel
theorem dX1_allHold_26 : decode cX1_allHold 26 = .ok (.getfield 7, 3) := by decide +kernel
theorem dX1_allHold_29 : decode cX1_allHold 29 = .ok (.iload 4, 2) := by decide +kernel
theorem dX1_allHold_31 : decode cX1_allHold 31 = .ok (.baload, 1) := by decide +kernel
theorem dX1_allHold_32 : decode cX1_allHold 32 = .ok (.ifCond .eq 25, 3) := by decide +kernel
theorem dX1_allHold_35 : decode cX1_allHold 35 = .ok (.aload_n 0, 1) := by decide +kernel
theorem dX1_allHold_36 : decode cX1_allHold 36 = .ok (.aload_n 0, 1) := by decide +kernel
theorem dX1_allHold_37 : decode cX1_allHold 37 = .ok (.getfield 13, 3) := by decide +kernel
theorem dX1_allHold_40 : decode cX1_allHold 40 = .ok (.iload 4, 2) := by decide +kernel
theorem dX1_allHold_42 : decode cX1_allHold 42 = .ok (.iaload, 1) := by decide +kernel
theorem dX1_allHold_43 : decode cX1_allHold 43 = .ok (.aload_n 0, 1) := by decide +kernel
theorem dX1_allHold_44 : decode cX1_allHold 44 = .ok (.getfield 17, 3) := by decide +kernel
theorem dX1_allHold_47 : decode cX1_allHold 47 = .ok (.iload 4, 2) := by decide +kernel
theorem dX1_allHold_49 : decode cX1_allHold 49 = .ok (.iaload, 1) := by decide +kernel
theorem dX1_allHold_50 : decode cX1_allHold 50 = .ok (.iload_n 2, 1) := by decide +kernel
theorem dX1_allHold_51 : decode cX1_allHold 51 = .ok (.invokevirtual 27, 3) := by decide +kernel
theorem dX1_allHold_54 : decode cX1_allHold 54 = .ok (.ifCond .eq 7, 3) := by decide +kernel
theorem dX1_allHold_57 : decode cX1_allHold 57 = .ok (.iconst 1, 1) := by decide +kernel
theorem dX1_allHold_58 : decode cX1_allHold 58 = .ok (.goto 4, 3) := by decide +kernel
theorem dX1_allHold_61 : decode cX1_allHold 61 = .ok (.iconst 0, 1) := by decide +kernel
theorem dX1_allHold_62 : decode cX1_allHold 62 = .ok (.istore_n 3, 1) := by decide +kernel
theorem dX1_allHold_63 : decode cX1_allHold 63 = .ok (.iinc 4 1, 3) := by decide +kernel
theorem dX1_allHold_66 : decode cX1_allHold 66 = .ok (.goto (-61), 3) := by decide +kernel
theorem dX1_allHold_69 : decode cX1_allHold 69 = .ok (.iload_n 3, 1) := by decide +kernel
theorem dX1_allHold_70 : decode cX1_allHold 70 = .ok (.ireturn, 1) := by decide +kernel
theorem dX1_holds_0 : decode cX1_holds 0 = .ok (.iload_n 1, 1) := by decide +kernel
theorem dX1_holds_1 : decode cX1_holds 1 = .ok (.iload_n 3, 1) := by decide +kernel
theorem dX1_holds_2 : decode cX1_holds 2 = .ok (.iand, 1) := by decide +kernel
theorem dX1_holds_3 : decode cX1_holds 3 = .ok (.ifCond .ne 11, 3) := by decide +kernel
theorem dX1_holds_6 : decode cX1_holds 6 = .ok (.iload_n 2, 1) := by decide +kernel
theorem dX1_holds_7 : decode cX1_holds 7 = .ok (.iload_n 3, 1) := by decide +kernel
theorem dX1_holds_8 : decode cX1_holds 8 = .ok (.iconst (-1), 1) := by decide +kernel
theorem dX1_holds_9 : decode cX1_holds 9 = .ok (.ixor, 1) := by decide +kernel
theorem dX1_holds_10 : decode cX1_holds 10 = .ok (.iand, 1) := by decide +kernel
theorem dX1_holds_11 : decode cX1_holds 11 = .ok (.ifCond .eq 7, 3) := by decide +kernel
theorem dX1_holds_14 : decode cX1_holds 14 = .ok (.iconst 1, 1) := by decide +kernel
theorem dX1_holds_15 : decode cX1_holds 15 = .ok (.goto 4, 3) := by decide +kernel
theorem dX1_holds_18 : decode cX1_holds 18 = .ok (.iconst 0, 1) := by decide +kernel
theorem dX1_holds_19 : decode cX1_holds 19 = .ok (.ireturn, 1) := by decide +kernel
theorem dX1_cores_0 : decode cX1_cores 0 = .ok (.aload_n 0, 1) := by decide +kernel
theorem dX1_cores_1 : decode cX1_cores 1 = .ok (.invokevirtual 46, 3) := by decide +kernel
theorem dX1_cores_4 : decode cX1_cores 4 = .ok (.iconst 0, 1) := by decide +kernel
theorem dX1_cores_5 : decode cX1_cores 5 = .ok (.istore_n 1, 1) := by decide +kernel
theorem dX1_cores_6 : decode cX1_cores 6 = .ok (.iconst 0, 1) := by decide +kernel
theorem dX1_cores_7 : decode cX1_cores 7 = .ok (.istore_n 2, 1) := by decide +kernel
theorem dX1_cores_8 : decode cX1_cores 8 = .ok (.iload_n 2, 1) := by decide +kernel
theorem dX1_cores_9 : decode cX1_cores 9 = .ok (.sipush 128, 3) := by decide +kernel
theorem dX1_cores_12 : decode cX1_cores 12 = .ok (.if_icmp .ge 25, 3) := by decide +kernel
theorem dX1_cores_15 : decode cX1_cores 15 = .ok (.aload_n 0, 1) := by decide +kernel
theorem dX1_cores_16 : decode cX1_cores 16 = .ok (.iload_n 2, 1) := by decide +kernel
theorem dX1_cores_17 : decode cX1_cores 17 = .ok (.invokevirtual 49, 3) := by decide +kernel
theorem dX1_cores_20 : decode cX1_cores 20 = .ok (.ifCond .eq 9, 3) := by decide +kernel
theorem dX1_cores_23 : decode cX1_cores 23 = .ok (.iload_n 1, 1) := by decide +kernel
theorem dX1_cores_24 : decode cX1_cores 24 = .ok (.iconst 1, 1) := by decide +kernel
theorem dX1_cores_25 : decode cX1_cores 25 = .ok (.iadd, 1) := by decide +kernel
theorem dX1_cores_26 : decode cX1_cores 26 = .ok (.goto 4, 3) := by decide +kernel
theorem dX1_cores_29 : decode cX1_cores 29 = .ok (.iload_n 1, 1) := by decide +kernel
theorem dX1_cores_30 : decode cX1_cores 30 = .ok (.istore_n 1, 1) := by decide +kernel
theorem dX1_cores_31 : decode cX1_cores 31 = .ok (.iinc 2 1, 3) := by decide +kernel
theorem dX1_cores_34 : decode cX1_cores 34 = .ok (.goto (-26), 3) := by decide +kernel
theorem dX1_cores_37 : decode cX1_cores 37 = .ok (.iload_n 1, 1) := by decide +kernel
theorem dX1_cores_38 : decode cX1_cores 38 = .ok (.ireturn, 1) := by decide +kernel
theorem dX1_work_0 : decode cX1_work 0 = .ok (.iconst 0, 1) := by decide +kernel
theorem dX1_work_1 : decode cX1_work 1 = .ok (.istore_n 1, 1) := by decide +kernel
theorem dX1_work_2 : decode cX1_work 2 = .ok (.iload_n 1, 1) := by decide +kernel
theorem dX1_work_3 : decode cX1_work 3 = .ok (.sipush 128, 3) := by decide +kernel
theorem dX1_work_6 : decode cX1_work 6 = .ok (.if_icmp .ge 20, 3) := by decide +kernel
theorem dX1_work_9 : decode cX1_work 9 = .ok (.aload_n 0, 1) := by decide +kernel
theorem dX1_work_10 : decode cX1_work 10 = .ok (.getfield 20, 3) := by decide +kernel
theorem dX1_work_13 : decode cX1_work 13 = .ok (.iload_n 1, 1) := by decide +kernel
theorem dX1_work_14 : decode cX1_work 14 = .ok (.aload_n 0, 1) := by decide +kernel
theorem dX1_work_15 : decode cX1_work 15 = .ok (.iload_n 1, 1) := by decide +kernel
theorem dX1_work_16 : decode cX1_work 16 = .ok (.invokevirtual 39, 3) := by decide +kernel
theorem dX1_work_19 : decode cX1_work 19 = .ok (.bastore, 1) := by decide +kernel
theorem dX1_work_20 : decode cX1_work 20 = .ok (.iinc 1 1, 3) := by decide +kernel
theorem dX1_work_23 : decode cX1_work 23 = .ok (.goto (-21), 3) := by decide +kernel
theorem dX1_work_26 : decode cX1_work 26 = .ok (.return_, 1) := by decide +kernel
theorem dX1_isCore_0 : decode cX1_isCore 0 = .ok (.iload_n 1, 1) := by decide +kernel
theorem dX1_isCore_1 : decode cX1_isCore 1 = .ok (.aload_n 0, 1) := by decide +kernel
theorem dX1_isCore_2 : decode cX1_isCore 2 = .ok (.invokevirtual 42, 3) := by decide +kernel
theorem dX1_isCore_5 : decode cX1_isCore 5 = .ok (.iconst (-1), 1) := by decide +kernel
theorem dX1_isCore_6 : decode cX1_isCore 6 = .ok (.ixor, 1) := by decide +kernel
theorem dX1_isCore_7 : decode cX1_isCore 7 = .ok (.iand, 1) := by decide +kernel
theorem dX1_isCore_8 : decode cX1_isCore 8 = .ok (.ifCond .ne 16, 3) := by decide +kernel
theorem dX1_isCore_11 : decode cX1_isCore 11 = .ok (.aload_n 0, 1) := by decide +kernel
theorem dX1_isCore_12 : decode cX1_isCore 12 = .ok (.getfield 20, 3) := by decide +kernel
theorem dX1_isCore_15 : decode cX1_isCore 15 = .ok (.iload_n 1, 1) := by decide +kernel
theorem dX1_isCore_16 : decode cX1_isCore 16 = .ok (.baload, 1) := by decide +kernel
theorem dX1_isCore_17 : decode cX1_isCore 17 = .ok (.ifCond .ne 7, 3) := by decide +kernel
theorem dX1_isCore_20 : decode cX1_isCore 20 = .ok (.iconst 1, 1) := by decide +kernel
theorem dX1_isCore_21 : decode cX1_isCore 21 = .ok (.goto 4, 3) := by decide +kernel
theorem dX1_isCore_24 : decode cX1_isCore 24 = .ok (.iconst 0, 1) := by decide +kernel
theorem dX1_isCore_25 : decode cX1_isCore 25 = .ok (.istore_n 2, 1) := by decide +kernel
theorem dX1_isCore_26 : decode cX1_isCore 26 = .ok (.iconst 0, 1) := by decide +kernel
theorem dX1_isCore_27 : decode cX1_isCore 27 = .ok (.istore_n 3, 1) := by decide +kernel
theorem dX1_isCore_28 : decode cX1_isCore 28 = .ok (.iload_n 3, 1) := by decide +kernel
theorem dX1_isCore_29 : decode cX1_isCore 29 = .ok (.bipush 7, 2) := by decide +kernel
theorem dX1_isCore_31 : decode cX1_isCore 31 = .ok (.if_icmp .ge 42, 3) := by decide +kernel
theorem dX1_isCore_34 : decode cX1_isCore 34 = .ok (.iload_n 2, 1) := by decide +kernel
theorem dX1_isCore_35 : decode cX1_isCore 35 = .ok (.ifCond .eq 30, 3) := by decide +kernel
theorem dX1_isCore_38 : decode cX1_isCore 38 = .ok (.iload_n 1, 1) := by decide +kernel
theorem dX1_isCore_39 : decode cX1_isCore 39 = .ok (.iload_n 3, 1) := by decide +kernel
theorem dX1_isCore_40 : decode cX1_isCore 40 = .ok (.ishr, 1) := by decide +kernel
theorem dX1_isCore_41 : decode cX1_isCore 41 = .ok (.iconst 1, 1) := by decide +kernel
theorem dX1_isCore_42 : decode cX1_isCore 42 = .ok (.iand, 1) := by decide +kernel
theorem dX1_isCore_43 : decode cX1_isCore 43 = .ok (.ifCond .eq 18, 3) := by decide +kernel
theorem dX1_isCore_46 : decode cX1_isCore 46 = .ok (.aload_n 0, 1) := by decide +kernel
theorem dX1_isCore_47 : decode cX1_isCore 47 = .ok (.getfield 20, 3) := by decide +kernel
theorem dX1_isCore_50 : decode cX1_isCore 50 = .ok (.iload_n 1, 1) := by decide +kernel
theorem dX1_isCore_51 : decode cX1_isCore 51 = .ok (.iconst 1, 1) := by decide +kernel
theorem dX1_isCore_52 : decode cX1_isCore 52 = .ok (.iload_n 3, 1) := by decide +kernel
theorem dX1_isCore_53 : decode cX1_isCore 53 = .ok (.ishl, 1) := by decide +kernel
theorem dX1_isCore_54 : decode cX1_isCore 54 = .ok (.iconst (-1), 1) := by decide +kernel
theorem dX1_isCore_55 : decode cX1_isCore 55 = .ok (.ixor, 1) := by decide +kernel
theorem dX1_isCore_56 : decode cX1_isCore 56 = .ok (.iand, 1) := by decide +kernel
theorem dX1_isCore_57 : decode cX1_isCore 57 = .ok (.baload, 1) := by decide +kernel
theorem dX1_isCore_58 : decode cX1_isCore 58 = .ok (.ifCond .eq 7, 3) := by decide +kernel
theorem dX1_isCore_61 : decode cX1_isCore 61 = .ok (.iconst 1, 1) := by decide +kernel
theorem dX1_isCore_62 : decode cX1_isCore 62 = .ok (.goto 4, 3) := by decide +kernel
theorem dX1_isCore_65 : decode cX1_isCore 65 = .ok (.iconst 0, 1) := by decide +kernel
theorem dX1_isCore_66 : decode cX1_isCore 66 = .ok (.istore_n 2, 1) := by decide +kernel
theorem dX1_isCore_67 : decode cX1_isCore 67 = .ok (.iinc 3 1, 3) := by decide +kernel
theorem dX1_isCore_70 : decode cX1_isCore 70 = .ok (.goto (-42), 3) := by decide +kernel
theorem dX1_isCore_73 : decode cX1_isCore 73 = .ok (.iload_n 2, 1) := by decide +kernel
theorem dX1_isCore_74 : decode cX1_isCore 74 = .ok (.ireturn, 1) := by decide +kernel
theorem dX1_core_0 : decode cX1_core 0 = .ok (.aload_n 0, 1) := by decide +kernel
theorem dX1_core_1 : decode cX1_core 1 = .ok (.invokevirtual 46, 3) := by decide +kernel
theorem dX1_core_4 : decode cX1_core 4 = .ok (.iconst 0, 1) := by decide +kernel
theorem dX1_core_5 : decode cX1_core 5 = .ok (.istore_n 2, 1) := by decide +kernel
theorem dX1_core_6 : decode cX1_core 6 = .ok (.iconst 0, 1) := by decide +kernel
theorem dX1_core_7 : decode cX1_core 7 = .ok (.istore_n 3, 1) := by decide +kernel
theorem dX1_core_8 : decode cX1_core 8 = .ok (.iload_n 3, 1) := by decide +kernel
theorem dX1_core_9 : decode cX1_core 9 = .ok (.sipush 128, 3) := by decide +kernel
theorem dX1_core_12 : decode cX1_core 12 = .ok (.if_icmp .ge 27, 3) := by decide +kernel
theorem dX1_core_15 : decode cX1_core 15 = .ok (.aload_n 0, 1) := by decide +kernel
theorem dX1_core_16 : decode cX1_core 16 = .ok (.iload_n 3, 1) := by decide +kernel
theorem dX1_core_17 : decode cX1_core 17 = .ok (.invokevirtual 49, 3) := by decide +kernel
theorem dX1_core_20 : decode cX1_core 20 = .ok (.ifCond .eq 13, 3) := by decide +kernel
theorem dX1_core_23 : decode cX1_core 23 = .ok (.iload_n 2, 1) := by decide +kernel
theorem dX1_core_24 : decode cX1_core 24 = .ok (.iload_n 1, 1) := by decide +kernel
theorem dX1_core_25 : decode cX1_core 25 = .ok (.if_icmp .ne 5, 3) := by decide +kernel
theorem dX1_core_28 : decode cX1_core 28 = .ok (.iload_n 3, 1) := by decide +kernel
theorem dX1_core_29 : decode cX1_core 29 = .ok (.ireturn, 1) := by decide +kernel
theorem dX1_core_30 : decode cX1_core 30 = .ok (.iinc 2 1, 3) := by decide +kernel
theorem dX1_core_33 : decode cX1_core 33 = .ok (.iinc 3 1, 3) := by decide +kernel
theorem dX1_core_36 : decode cX1_core 36 = .ok (.goto (-28), 3) := by decide +kernel
theorem dX1_core_39 : decode cX1_core 39 = .ok (.iconst (-1), 1) := by decide +kernel
theorem dX1_core_40 : decode cX1_core 40 = .ok (.ireturn, 1) := by decide +kernel
theorem dX1_repairs_0 : decode cX1_repairs 0 = .ok (.aload_n 0, 1) := by decide +kernel
theorem dX1_repairs_1 : decode cX1_repairs 1 = .ok (.invokevirtual 46, 3) := by decide +kernel
theorem dX1_repairs_4 : decode cX1_repairs 4 = .ok (.iconst 0, 1) := by decide +kernel
theorem dX1_repairs_5 : decode cX1_repairs 5 = .ok (.istore_n 1, 1) := by decide +kernel
theorem dX1_repairs_6 : decode cX1_repairs 6 = .ok (.iconst 0, 1) := by decide +kernel
theorem dX1_repairs_7 : decode cX1_repairs 7 = .ok (.istore_n 2, 1) := by decide +kernel
theorem dX1_repairs_8 : decode cX1_repairs 8 = .ok (.iload_n 2, 1) := by decide +kernel
theorem dX1_repairs_9 : decode cX1_repairs 9 = .ok (.sipush 128, 3) := by decide +kernel
theorem dX1_repairs_12 : decode cX1_repairs 12 = .ok (.if_icmp .ge 25, 3) := by decide +kernel
theorem dX1_repairs_15 : decode cX1_repairs 15 = .ok (.aload_n 0, 1) := by decide +kernel
theorem dX1_repairs_16 : decode cX1_repairs 16 = .ok (.iload_n 2, 1) := by decide +kernel
theorem dX1_repairs_17 : decode cX1_repairs 17 = .ok (.invokevirtual 52, 3) := by decide +kernel
theorem dX1_repairs_20 : decode cX1_repairs 20 = .ok (.ifCond .eq 9, 3) := by decide +kernel
theorem dX1_repairs_23 : decode cX1_repairs 23 = .ok (.iload_n 1, 1) := by decide +kernel
theorem dX1_repairs_24 : decode cX1_repairs 24 = .ok (.iconst 1, 1) := by decide +kernel
theorem dX1_repairs_25 : decode cX1_repairs 25 = .ok (.iadd, 1) := by decide +kernel
theorem dX1_repairs_26 : decode cX1_repairs 26 = .ok (.goto 4, 3) := by decide +kernel
theorem dX1_repairs_29 : decode cX1_repairs 29 = .ok (.iload_n 1, 1) := by decide +kernel
theorem dX1_repairs_30 : decode cX1_repairs 30 = .ok (.istore_n 1, 1) := by decide +kernel
theorem dX1_repairs_31 : decode cX1_repairs 31 = .ok (.iinc 2 1, 3) := by decide +kernel
theorem dX1_repairs_34 : decode cX1_repairs 34 = .ok (.goto (-26), 3) := by decide +kernel
theorem dX1_repairs_37 : decode cX1_repairs 37 = .ok (.iload_n 1, 1) := by decide +kernel
theorem dX1_repairs_38 : decode cX1_repairs 38 = .ok (.ireturn, 1) := by decide +kernel
theorem dX1_isRepair_0 : decode cX1_isRepair 0 = .ok (.aload_n 0, 1) := by decide +kernel
theorem dX1_isRepair_1 : decode cX1_isRepair 1 = .ok (.invokevirtual 42, 3) := by decide +kernel
theorem dX1_isRepair_4 : decode cX1_isRepair 4 = .ok (.istore_n 2, 1) := by decide +kernel
theorem dX1_isRepair_5 : decode cX1_isRepair 5 = .ok (.iload_n 1, 1) := by decide +kernel
theorem dX1_isRepair_6 : decode cX1_isRepair 6 = .ok (.iload_n 2, 1) := by decide +kernel
theorem dX1_isRepair_7 : decode cX1_isRepair 7 = .ok (.iconst (-1), 1) := by decide +kernel
theorem dX1_isRepair_8 : decode cX1_isRepair 8 = .ok (.ixor, 1) := by decide +kernel
theorem dX1_isRepair_9 : decode cX1_isRepair 9 = .ok (.iand, 1) := by decide +kernel
theorem dX1_isRepair_10 : decode cX1_isRepair 10 = .ok (.ifCond .ne 20, 3) := by decide +kernel
theorem dX1_isRepair_13 : decode cX1_isRepair 13 = .ok (.aload_n 0, 1) := by decide +kernel
theorem dX1_isRepair_14 : decode cX1_isRepair 14 = .ok (.getfield 20, 3) := by decide +kernel
theorem dX1_isRepair_17 : decode cX1_isRepair 17 = .ok (.iload_n 2, 1) := by decide +kernel
theorem dX1_isRepair_18 : decode cX1_isRepair 18 = .ok (.iload_n 1, 1) := by decide +kernel
theorem dX1_isRepair_19 : decode cX1_isRepair 19 = .ok (.iconst (-1), 1) := by decide +kernel
theorem dX1_isRepair_20 : decode cX1_isRepair 20 = .ok (.ixor, 1) := by decide +kernel
theorem dX1_isRepair_21 : decode cX1_isRepair 21 = .ok (.iand, 1) := by decide +kernel
theorem dX1_isRepair_22 : decode cX1_isRepair 22 = .ok (.baload, 1) := by decide +kernel
theorem dX1_isRepair_23 : decode cX1_isRepair 23 = .ok (.ifCond .eq 7, 3) := by decide +kernel
theorem dX1_isRepair_26 : decode cX1_isRepair 26 = .ok (.iconst 1, 1) := by decide +kernel
theorem dX1_isRepair_27 : decode cX1_isRepair 27 = .ok (.goto 4, 3) := by decide +kernel
theorem dX1_isRepair_30 : decode cX1_isRepair 30 = .ok (.iconst 0, 1) := by decide +kernel
theorem dX1_isRepair_31 : decode cX1_isRepair 31 = .ok (.istore_n 3, 1) := by decide +kernel
theorem dX1_isRepair_32 : decode cX1_isRepair 32 = .ok (.iconst 0, 1) := by decide +kernel
theorem dX1_isRepair_33 : decode cX1_isRepair 33 = .ok (.istore 4, 2) := by decide +kernel
theorem dX1_isRepair_35 : decode cX1_isRepair 35 = .ok (.iload 4, 2) := by decide +kernel
theorem dX1_isRepair_37 : decode cX1_isRepair 37 = .ok (.iload_n 1, 1) := by decide +kernel
theorem dX1_isRepair_38 : decode cX1_isRepair 38 = .ok (.if_icmp .ge 42, 3) := by decide +kernel
theorem dX1_isRepair_41 : decode cX1_isRepair 41 = .ok (.iload_n 3, 1) := by decide +kernel
theorem dX1_isRepair_42 : decode cX1_isRepair 42 = .ok (.ifCond .eq 30, 3) := by decide +kernel
theorem dX1_isRepair_45 : decode cX1_isRepair 45 = .ok (.iload 4, 2) := by decide +kernel
theorem dX1_isRepair_47 : decode cX1_isRepair 47 = .ok (.iload_n 1, 1) := by decide +kernel
theorem dX1_isRepair_48 : decode cX1_isRepair 48 = .ok (.iconst (-1), 1) := by decide +kernel
theorem dX1_isRepair_49 : decode cX1_isRepair 49 = .ok (.ixor, 1) := by decide +kernel
theorem dX1_isRepair_50 : decode cX1_isRepair 50 = .ok (.iand, 1) := by decide +kernel
theorem dX1_isRepair_51 : decode cX1_isRepair 51 = .ok (.ifCond .ne 17, 3) := by decide +kernel
theorem dX1_isRepair_54 : decode cX1_isRepair 54 = .ok (.aload_n 0, 1) := by decide +kernel
theorem dX1_isRepair_55 : decode cX1_isRepair 55 = .ok (.getfield 20, 3) := by decide +kernel
theorem dX1_isRepair_58 : decode cX1_isRepair 58 = .ok (.iload_n 2, 1) := by decide +kernel
theorem dX1_isRepair_59 : decode cX1_isRepair 59 = .ok (.iload 4, 2) := by decide +kernel
theorem dX1_isRepair_61 : decode cX1_isRepair 61 = .ok (.iconst (-1), 1) := by decide +kernel
theorem dX1_isRepair_62 : decode cX1_isRepair 62 = .ok (.ixor, 1) := by decide +kernel
theorem dX1_isRepair_63 : decode cX1_isRepair 63 = .ok (.iand, 1) := by decide +kernel
theorem dX1_isRepair_64 : decode cX1_isRepair 64 = .ok (.baload, 1) := by decide +kernel
theorem dX1_isRepair_65 : decode cX1_isRepair 65 = .ok (.ifCond .ne 7, 3) := by decide +kernel
theorem dX1_isRepair_68 : decode cX1_isRepair 68 = .ok (.iconst 1, 1) := by decide +kernel
theorem dX1_isRepair_69 : decode cX1_isRepair 69 = .ok (.goto 4, 3) := by decide +kernel
theorem dX1_isRepair_72 : decode cX1_isRepair 72 = .ok (.iconst 0, 1) := by decide +kernel
theorem dX1_isRepair_73 : decode cX1_isRepair 73 = .ok (.istore_n 3, 1) := by decide +kernel
theorem dX1_isRepair_74 : decode cX1_isRepair 74 = .ok (.iinc 4 1, 3) := by decide +kernel
theorem dX1_isRepair_77 : decode cX1_isRepair 77 = .ok (.goto (-42), 3) := by decide +kernel
theorem dX1_isRepair_80 : decode cX1_isRepair 80 = .ok (.iload_n 3, 1) := by decide +kernel
theorem dX1_isRepair_81 : decode cX1_isRepair 81 = .ok (.ireturn, 1) := by decide +kernel
theorem dX1_repair_0 : decode cX1_repair 0 = .ok (.aload_n 0, 1) := by decide +kernel
theorem dX1_repair_1 : decode cX1_repair 1 = .ok (.invokevirtual 46, 3) := by decide +kernel
theorem dX1_repair_4 : decode cX1_repair 4 = .ok (.iconst 0, 1) := by decide +kernel
theorem dX1_repair_5 : decode cX1_repair 5 = .ok (.istore_n 2, 1) := by decide +kernel
theorem dX1_repair_6 : decode cX1_repair 6 = .ok (.iconst 0, 1) := by decide +kernel
theorem dX1_repair_7 : decode cX1_repair 7 = .ok (.istore_n 3, 1) := by decide +kernel
theorem dX1_repair_8 : decode cX1_repair 8 = .ok (.iload_n 3, 1) := by decide +kernel
theorem dX1_repair_9 : decode cX1_repair 9 = .ok (.sipush 128, 3) := by decide +kernel
theorem dX1_repair_12 : decode cX1_repair 12 = .ok (.if_icmp .ge 27, 3) := by decide +kernel
theorem dX1_repair_15 : decode cX1_repair 15 = .ok (.aload_n 0, 1) := by decide +kernel
theorem dX1_repair_16 : decode cX1_repair 16 = .ok (.iload_n 3, 1) := by decide +kernel
theorem dX1_repair_17 : decode cX1_repair 17 = .ok (.invokevirtual 52, 3) := by decide +kernel
theorem dX1_repair_20 : decode cX1_repair 20 = .ok (.ifCond .eq 13, 3) := by decide +kernel
theorem dX1_repair_23 : decode cX1_repair 23 = .ok (.iload_n 2, 1) := by decide +kernel
theorem dX1_repair_24 : decode cX1_repair 24 = .ok (.iload_n 1, 1) := by decide +kernel
theorem dX1_repair_25 : decode cX1_repair 25 = .ok (.if_icmp .ne 5, 3) := by decide +kernel
theorem dX1_repair_28 : decode cX1_repair 28 = .ok (.iload_n 3, 1) := by decide +kernel
theorem dX1_repair_29 : decode cX1_repair 29 = .ok (.ireturn, 1) := by decide +kernel
theorem dX1_repair_30 : decode cX1_repair 30 = .ok (.iinc 2 1, 3) := by decide +kernel
theorem dX1_repair_33 : decode cX1_repair 33 = .ok (.iinc 3 1, 3) := by decide +kernel
theorem dX1_repair_36 : decode cX1_repair 36 = .ok (.goto (-28), 3) := by decide +kernel
theorem dX1_repair_39 : decode cX1_repair 39 = .ok (.iconst (-1), 1) := by decide +kernel
theorem dX1_repair_40 : decode cX1_repair 40 = .ok (.ireturn, 1) := by decide +kernel
theorem dX1_guilty_0 : decode cX1_guilty 0 = .ok (.aload_n 0, 1) := by decide +kernel
theorem dX1_guilty_1 : decode cX1_guilty 1 = .ok (.invokevirtual 46, 3) := by decide +kernel
theorem dX1_guilty_4 : decode cX1_guilty 4 = .ok (.iconst 0, 1) := by decide +kernel
theorem dX1_guilty_5 : decode cX1_guilty 5 = .ok (.istore_n 1, 1) := by decide +kernel
theorem dX1_guilty_6 : decode cX1_guilty 6 = .ok (.iconst 0, 1) := by decide +kernel
theorem dX1_guilty_7 : decode cX1_guilty 7 = .ok (.istore_n 2, 1) := by decide +kernel
theorem dX1_guilty_8 : decode cX1_guilty 8 = .ok (.iload_n 2, 1) := by decide +kernel
theorem dX1_guilty_9 : decode cX1_guilty 9 = .ok (.sipush 128, 3) := by decide +kernel
theorem dX1_guilty_12 : decode cX1_guilty 12 = .ok (.if_icmp .ge 25, 3) := by decide +kernel
theorem dX1_guilty_15 : decode cX1_guilty 15 = .ok (.aload_n 0, 1) := by decide +kernel
theorem dX1_guilty_16 : decode cX1_guilty 16 = .ok (.iload_n 2, 1) := by decide +kernel
theorem dX1_guilty_17 : decode cX1_guilty 17 = .ok (.invokevirtual 49, 3) := by decide +kernel
theorem dX1_guilty_20 : decode cX1_guilty 20 = .ok (.ifCond .eq 9, 3) := by decide +kernel
theorem dX1_guilty_23 : decode cX1_guilty 23 = .ok (.iload_n 1, 1) := by decide +kernel
theorem dX1_guilty_24 : decode cX1_guilty 24 = .ok (.iload_n 2, 1) := by decide +kernel
theorem dX1_guilty_25 : decode cX1_guilty 25 = .ok (.ior, 1) := by decide +kernel
theorem dX1_guilty_26 : decode cX1_guilty 26 = .ok (.goto 4, 3) := by decide +kernel
theorem dX1_guilty_29 : decode cX1_guilty 29 = .ok (.iload_n 1, 1) := by decide +kernel
theorem dX1_guilty_30 : decode cX1_guilty 30 = .ok (.istore_n 1, 1) := by decide +kernel
theorem dX1_guilty_31 : decode cX1_guilty 31 = .ok (.iinc 2 1, 3) := by decide +kernel
theorem dX1_guilty_34 : decode cX1_guilty 34 = .ok (.goto (-26), 3) := by decide +kernel
theorem dX1_guilty_37 : decode cX1_guilty 37 = .ok (.iload_n 1, 1) := by decide +kernel
theorem dX1_guilty_38 : decode cX1_guilty 38 = .ok (.ireturn, 1) := by decide +kernel
theorem dX1_central_0 : decode cX1_central 0 = .ok (.aload_n 0, 1) := by decide +kernel
theorem dX1_central_1 : decode cX1_central 1 = .ok (.invokevirtual 46, 3) := by decide +kernel
theorem dX1_central_4 : decode cX1_central 4 = .ok (.aload_n 0, 1) := by decide +kernel
theorem dX1_central_5 : decode cX1_central 5 = .ok (.invokevirtual 42, 3) := by decide +kernel
theorem dX1_central_8 : decode cX1_central 8 = .ok (.istore_n 1, 1) := by decide +kernel
theorem dX1_central_9 : decode cX1_central 9 = .ok (.iconst 0, 1) := by decide +kernel
theorem dX1_central_10 : decode cX1_central 10 = .ok (.istore_n 2, 1) := by decide +kernel
theorem dX1_central_11 : decode cX1_central 11 = .ok (.iload_n 2, 1) := by decide +kernel
theorem dX1_central_12 : decode cX1_central 12 = .ok (.sipush 128, 3) := by decide +kernel
theorem dX1_central_15 : decode cX1_central 15 = .ok (.if_icmp .ge 25, 3) := by decide +kernel
theorem dX1_central_18 : decode cX1_central 18 = .ok (.aload_n 0, 1) := by decide +kernel
theorem dX1_central_19 : decode cX1_central 19 = .ok (.iload_n 2, 1) := by decide +kernel
theorem dX1_central_20 : decode cX1_central 20 = .ok (.invokevirtual 49, 3) := by decide +kernel
theorem dX1_central_23 : decode cX1_central 23 = .ok (.ifCond .eq 9, 3) := by decide +kernel
theorem dX1_central_26 : decode cX1_central 26 = .ok (.iload_n 1, 1) := by decide +kernel
theorem dX1_central_27 : decode cX1_central 27 = .ok (.iload_n 2, 1) := by decide +kernel
theorem dX1_central_28 : decode cX1_central 28 = .ok (.iand, 1) := by decide +kernel
theorem dX1_central_29 : decode cX1_central 29 = .ok (.goto 4, 3) := by decide +kernel
theorem dX1_central_32 : decode cX1_central 32 = .ok (.iload_n 1, 1) := by decide +kernel
theorem dX1_central_33 : decode cX1_central 33 = .ok (.istore_n 1, 1) := by decide +kernel
theorem dX1_central_34 : decode cX1_central 34 = .ok (.iinc 2 1, 3) := by decide +kernel
theorem dX1_central_37 : decode cX1_central 37 = .ok (.goto (-26), 3) := by decide +kernel
theorem dX1_central_40 : decode cX1_central 40 = .ok (.iload_n 1, 1) := by decide +kernel
theorem dX1_central_41 : decode cX1_central 41 = .ok (.ireturn, 1) := by decide +kernel
theorem dX1_smallestCore_0 : decode cX1_smallestCore 0 = .ok (.aload_n 0, 1) := by decide +kernel
theorem dX1_smallestCore_1 : decode cX1_smallestCore 1 = .ok (.invokevirtual 46, 3) := by decide +kernel
theorem dX1_smallestCore_4 : decode cX1_smallestCore 4 = .ok (.iconst (-1), 1) := by decide +kernel
theorem dX1_smallestCore_5 : decode cX1_smallestCore 5 = .ok (.istore_n 1, 1) := by decide +kernel
theorem dX1_smallestCore_6 : decode cX1_smallestCore 6 = .ok (.iconst 0, 1) := by decide +kernel
theorem dX1_smallestCore_7 : decode cX1_smallestCore 7 = .ok (.istore_n 2, 1) := by decide +kernel
theorem dX1_smallestCore_8 : decode cX1_smallestCore 8 = .ok (.iload_n 2, 1) := by decide +kernel
theorem dX1_smallestCore_9 : decode cX1_smallestCore 9 = .ok (.sipush 128, 3) := by decide +kernel
theorem dX1_smallestCore_12 : decode cX1_smallestCore 12 = .ok (.if_icmp .ge 38, 3) := by decide +kernel
theorem dX1_smallestCore_15 : decode cX1_smallestCore 15 = .ok (.aload_n 0, 1) := by decide +kernel
theorem dX1_smallestCore_16 : decode cX1_smallestCore 16 = .ok (.iload_n 2, 1) := by decide +kernel
theorem dX1_smallestCore_17 : decode cX1_smallestCore 17 = .ok (.invokevirtual 55, 3) := by decide +kernel
theorem dX1_smallestCore_20 : decode cX1_smallestCore 20 = .ok (.istore_n 3, 1) := by decide +kernel
theorem dX1_smallestCore_21 : decode cX1_smallestCore 21 = .ok (.aload_n 0, 1) := by decide +kernel
theorem dX1_smallestCore_22 : decode cX1_smallestCore 22 = .ok (.iload_n 2, 1) := by decide +kernel
theorem dX1_smallestCore_23 : decode cX1_smallestCore 23 = .ok (.invokevirtual 49, 3) := by decide +kernel
theorem dX1_smallestCore_26 : decode cX1_smallestCore 26 = .ok (.ifCond .eq 16, 3) := by decide +kernel
theorem dX1_smallestCore_29 : decode cX1_smallestCore 29 = .ok (.iload_n 1, 1) := by decide +kernel
theorem dX1_smallestCore_30 : decode cX1_smallestCore 30 = .ok (.ifCond .lt 8, 3) := by decide +kernel
theorem dX1_smallestCore_33 : decode cX1_smallestCore 33 = .ok (.iload_n 3, 1) := by decide +kernel
theorem dX1_smallestCore_34 : decode cX1_smallestCore 34 = .ok (.iload_n 1, 1) := by decide +kernel
theorem dX1_smallestCore_35 : decode cX1_smallestCore 35 = .ok (.if_icmp .ge 7, 3) := by decide +kernel
theorem dX1_smallestCore_38 : decode cX1_smallestCore 38 = .ok (.iload_n 3, 1) := by decide +kernel
theorem dX1_smallestCore_39 : decode cX1_smallestCore 39 = .ok (.goto 4, 3) := by decide +kernel
theorem dX1_smallestCore_42 : decode cX1_smallestCore 42 = .ok (.iload_n 1, 1) := by decide +kernel
theorem dX1_smallestCore_43 : decode cX1_smallestCore 43 = .ok (.istore_n 1, 1) := by decide +kernel
theorem dX1_smallestCore_44 : decode cX1_smallestCore 44 = .ok (.iinc 2 1, 3) := by decide +kernel
theorem dX1_smallestCore_47 : decode cX1_smallestCore 47 = .ok (.goto (-39), 3) := by decide +kernel
theorem dX1_smallestCore_50 : decode cX1_smallestCore 50 = .ok (.iload_n 1, 1) := by decide +kernel
theorem dX1_smallestCore_51 : decode cX1_smallestCore 51 = .ok (.ireturn, 1) := by decide +kernel
theorem dX1_ones_0 : decode cX1_ones 0 = .ok (.iconst 0, 1) := by decide +kernel
theorem dX1_ones_1 : decode cX1_ones 1 = .ok (.istore_n 2, 1) := by decide +kernel
theorem dX1_ones_2 : decode cX1_ones 2 = .ok (.iconst 0, 1) := by decide +kernel
theorem dX1_ones_3 : decode cX1_ones 3 = .ok (.istore_n 3, 1) := by decide +kernel
theorem dX1_ones_4 : decode cX1_ones 4 = .ok (.iload_n 3, 1) := by decide +kernel
theorem dX1_ones_5 : decode cX1_ones 5 = .ok (.bipush 7, 2) := by decide +kernel
theorem dX1_ones_7 : decode cX1_ones 7 = .ok (.if_icmp .ge 17, 3) := by decide +kernel
theorem dX1_ones_10 : decode cX1_ones 10 = .ok (.iload_n 2, 1) := by decide +kernel
theorem dX1_ones_11 : decode cX1_ones 11 = .ok (.iload_n 1, 1) := by decide +kernel
theorem dX1_ones_12 : decode cX1_ones 12 = .ok (.iload_n 3, 1) := by decide +kernel
theorem dX1_ones_13 : decode cX1_ones 13 = .ok (.ishr, 1) := by decide +kernel
theorem dX1_ones_14 : decode cX1_ones 14 = .ok (.iconst 1, 1) := by decide +kernel
theorem dX1_ones_15 : decode cX1_ones 15 = .ok (.iand, 1) := by decide +kernel
theorem dX1_ones_16 : decode cX1_ones 16 = .ok (.iadd, 1) := by decide +kernel
theorem dX1_ones_17 : decode cX1_ones 17 = .ok (.istore_n 2, 1) := by decide +kernel
theorem dX1_ones_18 : decode cX1_ones 18 = .ok (.iinc 3 1, 3) := by decide +kernel
theorem dX1_ones_21 : decode cX1_ones 21 = .ok (.goto (-17), 3) := by decide +kernel
theorem dX1_ones_24 : decode cX1_ones 24 = .ok (.iload_n 2, 1) := by decide +kernel
theorem dX1_ones_25 : decode cX1_ones 25 = .ok (.ireturn, 1) := by decide +kernel
theorem dX1_mostTogether_0 : decode cX1_mostTogether 0 = .ok (.aload_n 0, 1) := by decide +kernel
theorem dX1_mostTogether_1 : decode cX1_mostTogether 1 = .ok (.invokevirtual 46, 3) := by decide +kernel
theorem dX1_mostTogether_4 : decode cX1_mostTogether 4 = .ok (.iconst 0, 1) := by decide +kernel
theorem dX1_mostTogether_5 : decode cX1_mostTogether 5 = .ok (.istore_n 1, 1) := by decide +kernel
theorem dX1_mostTogether_6 : decode cX1_mostTogether 6 = .ok (.iconst 0, 1) := by decide +kernel
theorem dX1_mostTogether_7 : decode cX1_mostTogether 7 = .ok (.istore_n 2, 1) := by decide +kernel
theorem dX1_mostTogether_8 : decode cX1_mostTogether 8 = .ok (.iload_n 2, 1) := by decide +kernel
theorem dX1_mostTogether_9 : decode cX1_mostTogether 9 = .ok (.sipush 128, 3) := by decide +kernel
theorem dX1_mostTogether_12 : decode cX1_mostTogether 12 = .ok (.if_icmp .ge 46, 3) := by decide +kernel
theorem dX1_mostTogether_15 : decode cX1_mostTogether 15 = .ok (.aload_n 0, 1) := by decide +kernel
theorem dX1_mostTogether_16 : decode cX1_mostTogether 16 = .ok (.iload_n 2, 1) := by decide +kernel
theorem dX1_mostTogether_17 : decode cX1_mostTogether 17 = .ok (.invokevirtual 55, 3) := by decide +kernel
theorem dX1_mostTogether_20 : decode cX1_mostTogether 20 = .ok (.istore_n 3, 1) := by decide +kernel
theorem dX1_mostTogether_21 : decode cX1_mostTogether 21 = .ok (.iload_n 2, 1) := by decide +kernel
theorem dX1_mostTogether_22 : decode cX1_mostTogether 22 = .ok (.aload_n 0, 1) := by decide +kernel
theorem dX1_mostTogether_23 : decode cX1_mostTogether 23 = .ok (.invokevirtual 42, 3) := by decide +kernel
theorem dX1_mostTogether_26 : decode cX1_mostTogether 26 = .ok (.iconst (-1), 1) := by decide +kernel
theorem dX1_mostTogether_27 : decode cX1_mostTogether 27 = .ok (.ixor, 1) := by decide +kernel
theorem dX1_mostTogether_28 : decode cX1_mostTogether 28 = .ok (.iand, 1) := by decide +kernel
theorem dX1_mostTogether_29 : decode cX1_mostTogether 29 = .ok (.ifCond .ne 21, 3) := by decide +kernel
theorem dX1_mostTogether_32 : decode cX1_mostTogether 32 = .ok (.aload_n 0, 1) := by decide +kernel
theorem dX1_mostTogether_33 : decode cX1_mostTogether 33 = .ok (.getfield 20, 3) := by decide +kernel
theorem dX1_mostTogether_36 : decode cX1_mostTogether 36 = .ok (.iload_n 2, 1) := by decide +kernel
theorem dX1_mostTogether_37 : decode cX1_mostTogether 37 = .ok (.baload, 1) := by decide +kernel
theorem dX1_mostTogether_38 : decode cX1_mostTogether 38 = .ok (.ifCond .eq 12, 3) := by decide +kernel
theorem dX1_mostTogether_41 : decode cX1_mostTogether 41 = .ok (.iload_n 3, 1) := by decide +kernel
theorem dX1_mostTogether_42 : decode cX1_mostTogether 42 = .ok (.iload_n 1, 1) := by decide +kernel
theorem dX1_mostTogether_43 : decode cX1_mostTogether 43 = .ok (.if_icmp .le 7, 3) := by decide +kernel
theorem dX1_mostTogether_46 : decode cX1_mostTogether 46 = .ok (.iload_n 3, 1) := by decide +kernel
theorem dX1_mostTogether_47 : decode cX1_mostTogether 47 = .ok (.goto 4, 3) := by decide +kernel
theorem dX1_mostTogether_50 : decode cX1_mostTogether 50 = .ok (.iload_n 1, 1) := by decide +kernel
theorem dX1_mostTogether_51 : decode cX1_mostTogether 51 = .ok (.istore_n 1, 1) := by decide +kernel
theorem dX1_mostTogether_52 : decode cX1_mostTogether 52 = .ok (.iinc 2 1, 3) := by decide +kernel
theorem dX1_mostTogether_55 : decode cX1_mostTogether 55 = .ok (.goto (-47), 3) := by decide +kernel
theorem dX1_mostTogether_58 : decode cX1_mostTogether 58 = .ok (.iload_n 1, 1) := by decide +kernel
theorem dX1_mostTogether_59 : decode cX1_mostTogether 59 = .ok (.ireturn, 1) := by decide +kernel
theorem dX1_follows_0 : decode cX1_follows 0 = .ok (.aload_n 0, 1) := by decide +kernel
theorem dX1_follows_1 : decode cX1_follows 1 = .ok (.iload_n 1, 1) := by decide +kernel
theorem dX1_follows_2 : decode cX1_follows 2 = .ok (.invokevirtual 23, 3) := by decide +kernel
theorem dX1_follows_5 : decode cX1_follows 5 = .ok (.ifCond .eq 15, 3) := by decide +kernel
theorem dX1_follows_8 : decode cX1_follows 8 = .ok (.aload_n 0, 1) := by decide +kernel
theorem dX1_follows_9 : decode cX1_follows 9 = .ok (.iload_n 2, 1) := by decide +kernel
theorem dX1_follows_10 : decode cX1_follows 10 = .ok (.invokevirtual 23, 3) := by decide +kernel
theorem dX1_follows_13 : decode cX1_follows 13 = .ok (.ifCond .eq 7, 3) := by decide +kernel
theorem dX1_follows_16 : decode cX1_follows 16 = .ok (.iconst 1, 1) := by decide +kernel
theorem dX1_follows_17 : decode cX1_follows 17 = .ok (.goto 4, 3) := by decide +kernel
theorem dX1_follows_20 : decode cX1_follows 20 = .ok (.iconst 0, 1) := by decide +kernel
theorem dX1_follows_21 : decode cX1_follows 21 = .ok (.istore_n 3, 1) := by decide +kernel
theorem dX1_follows_22 : decode cX1_follows 22 = .ok (.iconst 0, 1) := by decide +kernel
theorem dX1_follows_23 : decode cX1_follows 23 = .ok (.istore 4, 2) := by decide +kernel
theorem dX1_follows_25 : decode cX1_follows 25 = .ok (.iload 4, 2) := by decide +kernel
theorem dX1_follows_27 : decode cX1_follows 27 = .ok (.bipush 16, 2) := by decide +kernel
theorem dX1_follows_29 : decode cX1_follows 29 = .ok (.if_icmp .ge 41, 3) := by decide +kernel
theorem dX1_follows_32 : decode cX1_follows 32 = .ok (.iload_n 3, 1) := by decide +kernel
theorem dX1_follows_33 : decode cX1_follows 33 = .ok (.ifCond .eq 29, 3) := by decide +kernel
theorem dX1_follows_36 : decode cX1_follows 36 = .ok (.aload_n 0, 1) := by decide +kernel
theorem dX1_follows_37 : decode cX1_follows 37 = .ok (.bipush 127, 2) := by decide +kernel
theorem dX1_follows_39 : decode cX1_follows 39 = .ok (.iload 4, 2) := by decide +kernel
theorem dX1_follows_41 : decode cX1_follows 41 = .ok (.invokevirtual 35, 3) := by decide +kernel
theorem dX1_follows_44 : decode cX1_follows 44 = .ok (.ifCond .eq 14, 3) := by decide +kernel
theorem dX1_follows_47 : decode cX1_follows 47 = .ok (.aload_n 0, 1) := by decide +kernel
theorem dX1_follows_48 : decode cX1_follows 48 = .ok (.iload_n 1, 1) := by decide +kernel
theorem dX1_follows_49 : decode cX1_follows 49 = .ok (.iload_n 2, 1) := by decide +kernel
theorem dX1_follows_50 : decode cX1_follows 50 = .ok (.iload 4, 2) := by decide +kernel
theorem dX1_follows_52 : decode cX1_follows 52 = .ok (.invokevirtual 27, 3) := by decide +kernel
theorem dX1_follows_55 : decode cX1_follows 55 = .ok (.ifCond .eq 7, 3) := by decide +kernel
theorem dX1_follows_58 : decode cX1_follows 58 = .ok (.iconst 1, 1) := by decide +kernel
theorem dX1_follows_59 : decode cX1_follows 59 = .ok (.goto 4, 3) := by decide +kernel
theorem dX1_follows_62 : decode cX1_follows 62 = .ok (.iconst 0, 1) := by decide +kernel
theorem dX1_follows_63 : decode cX1_follows 63 = .ok (.istore_n 3, 1) := by decide +kernel
theorem dX1_follows_64 : decode cX1_follows 64 = .ok (.iinc 4 1, 3) := by decide +kernel
theorem dX1_follows_67 : decode cX1_follows 67 = .ok (.goto (-42), 3) := by decide +kernel
theorem dX1_follows_70 : decode cX1_follows 70 = .ok (.iload_n 3, 1) := by decide +kernel
theorem dX1_follows_71 : decode cX1_follows 71 = .ok (.ireturn, 1) := by decide +kernel
theorem dJ0_init_0 : decode cJ0_init 0 = .ok (.return_, 1) := by decide +kernel
end
section
set_option maxRecDepth 100000
theorem dL_law_0 : decode cL_law 0 = .ok (.new 7, 3) := by decide +kernel
theorem dL_law_3 : decode cL_law 3 = .ok (.dup, 1) := by decide +kernel
theorem dL_law_4 : decode cL_law 4 = .ok (.invokespecial 9, 3) := by decide +kernel
theorem dL_law_7 : decode cL_law 7 = .ok (.astore_n 1, 1) := by decide +kernel
theorem dL_law_8 : decode cL_law 8 = .ok (.new 10, 3) := by decide +kernel
theorem dL_law_11 : decode cL_law 11 = .ok (.dup, 1) := by decide +kernel
theorem dL_law_12 : decode cL_law 12 = .ok (.invokespecial 12, 3) := by decide +kernel
theorem dL_law_15 : decode cL_law 15 = .ok (.astore_n 2, 1) := by decide +kernel
theorem dL_law_16 : decode cL_law 16 = .ok (.iconst 0, 1) := by decide +kernel
theorem dL_law_17 : decode cL_law 17 = .ok (.istore_n 3, 1) := by decide +kernel
theorem dL_law_18 : decode cL_law 18 = .ok (.iload_n 3, 1) := by decide +kernel
theorem dL_law_19 : decode cL_law 19 = .ok (.aload_n 0, 1) := by decide +kernel
theorem dL_law_20 : decode cL_law 20 = .ok (.arraylength, 1) := by decide +kernel
theorem dL_law_21 : decode cL_law 21 = .ok (.iconst 3, 1) := by decide +kernel
theorem dL_law_22 : decode cL_law 22 = .ok (.isub, 1) := by decide +kernel
theorem dL_law_23 : decode cL_law 23 = .ok (.if_icmp .gt 359, 3) := by decide +kernel
theorem dL_law_26 : decode cL_law 26 = .ok (.aload_n 0, 1) := by decide +kernel
theorem dL_law_27 : decode cL_law 27 = .ok (.iload_n 3, 1) := by decide +kernel
theorem dL_law_28 : decode cL_law 28 = .ok (.iaload, 1) := by decide +kernel
theorem dL_law_29 : decode cL_law 29 = .ok (.bipush 15, 2) := by decide +kernel
theorem dL_law_31 : decode cL_law 31 = .ok (.iand, 1) := by decide +kernel
theorem dL_law_32 : decode cL_law 32 = .ok (.tableswitch 344 0 13 #[72, 105, 128, 141, 164, 187, 200, 223, 236, 259, 272, 285, 298, 311], 72) := by decide +kernel
theorem dL_law_104 : decode cL_law 104 = .ok (.aload_n 1, 1) := by decide +kernel
theorem dL_law_105 : decode cL_law 105 = .ok (.aload_n 0, 1) := by decide +kernel
theorem dL_law_106 : decode cL_law 106 = .ok (.iload_n 3, 1) := by decide +kernel
theorem dL_law_107 : decode cL_law 107 = .ok (.iconst 1, 1) := by decide +kernel
theorem dL_law_108 : decode cL_law 108 = .ok (.iadd, 1) := by decide +kernel
theorem dL_law_109 : decode cL_law 109 = .ok (.iaload, 1) := by decide +kernel
theorem dL_law_110 : decode cL_law 110 = .ok (.aload_n 0, 1) := by decide +kernel
theorem dL_law_111 : decode cL_law 111 = .ok (.iload_n 3, 1) := by decide +kernel
theorem dL_law_112 : decode cL_law 112 = .ok (.iconst 2, 1) := by decide +kernel
theorem dL_law_113 : decode cL_law 113 = .ok (.iadd, 1) := by decide +kernel
theorem dL_law_114 : decode cL_law 114 = .ok (.iaload, 1) := by decide +kernel
theorem dL_law_115 : decode cL_law 115 = .ok (.invokevirtual 13, 3) := by decide +kernel
theorem dL_law_118 : decode cL_law 118 = .ok (.aload_n 2, 1) := by decide +kernel
theorem dL_law_119 : decode cL_law 119 = .ok (.aload_n 0, 1) := by decide +kernel
theorem dL_law_120 : decode cL_law 120 = .ok (.iload_n 3, 1) := by decide +kernel
theorem dL_law_121 : decode cL_law 121 = .ok (.iconst 1, 1) := by decide +kernel
theorem dL_law_122 : decode cL_law 122 = .ok (.iadd, 1) := by decide +kernel
theorem dL_law_123 : decode cL_law 123 = .ok (.iaload, 1) := by decide +kernel
theorem dL_law_124 : decode cL_law 124 = .ok (.aload_n 0, 1) := by decide +kernel
theorem dL_law_125 : decode cL_law 125 = .ok (.iload_n 3, 1) := by decide +kernel
theorem dL_law_126 : decode cL_law 126 = .ok (.iconst 2, 1) := by decide +kernel
theorem dL_law_127 : decode cL_law 127 = .ok (.iadd, 1) := by decide +kernel
theorem dL_law_128 : decode cL_law 128 = .ok (.iaload, 1) := by decide +kernel
theorem dL_law_129 : decode cL_law 129 = .ok (.invokevirtual 17, 3) := by decide +kernel
theorem dL_law_132 : decode cL_law 132 = .ok (.if_icmp .eq 244, 3) := by decide +kernel
theorem dL_law_135 : decode cL_law 135 = .ok (.iconst 0, 1) := by decide +kernel
theorem dL_law_136 : decode cL_law 136 = .ok (.ireturn, 1) := by decide +kernel
theorem dL_law_137 : decode cL_law 137 = .ok (.aload_n 1, 1) := by decide +kernel
theorem dL_law_138 : decode cL_law 138 = .ok (.aload_n 0, 1) := by decide +kernel
theorem dL_law_139 : decode cL_law 139 = .ok (.iload_n 3, 1) := by decide +kernel
theorem dL_law_140 : decode cL_law 140 = .ok (.iconst 1, 1) := by decide +kernel
theorem dL_law_141 : decode cL_law 141 = .ok (.iadd, 1) := by decide +kernel
theorem dL_law_142 : decode cL_law 142 = .ok (.iaload, 1) := by decide +kernel
theorem dL_law_143 : decode cL_law 143 = .ok (.invokevirtual 18, 3) := by decide +kernel
theorem dL_law_146 : decode cL_law 146 = .ok (.aload_n 2, 1) := by decide +kernel
theorem dL_law_147 : decode cL_law 147 = .ok (.aload_n 0, 1) := by decide +kernel
theorem dL_law_148 : decode cL_law 148 = .ok (.iload_n 3, 1) := by decide +kernel
theorem dL_law_149 : decode cL_law 149 = .ok (.iconst 1, 1) := by decide +kernel
theorem dL_law_150 : decode cL_law 150 = .ok (.iadd, 1) := by decide +kernel
theorem dL_law_151 : decode cL_law 151 = .ok (.iaload, 1) := by decide +kernel
theorem dL_law_152 : decode cL_law 152 = .ok (.invokevirtual 22, 3) := by decide +kernel
theorem dL_law_155 : decode cL_law 155 = .ok (.if_icmp .eq 221, 3) := by decide +kernel
theorem dL_law_158 : decode cL_law 158 = .ok (.iconst 0, 1) := by decide +kernel
theorem dL_law_159 : decode cL_law 159 = .ok (.ireturn, 1) := by decide +kernel
theorem dL_law_160 : decode cL_law 160 = .ok (.aload_n 1, 1) := by decide +kernel
theorem dL_law_161 : decode cL_law 161 = .ok (.invokevirtual 23, 3) := by decide +kernel
theorem dL_law_164 : decode cL_law 164 = .ok (.aload_n 2, 1) := by decide +kernel
theorem dL_law_165 : decode cL_law 165 = .ok (.invokevirtual 27, 3) := by decide +kernel
theorem dL_law_168 : decode cL_law 168 = .ok (.if_icmp .eq 208, 3) := by decide +kernel
theorem dL_law_171 : decode cL_law 171 = .ok (.iconst 0, 1) := by decide +kernel
theorem dL_law_172 : decode cL_law 172 = .ok (.ireturn, 1) := by decide +kernel
theorem dL_law_173 : decode cL_law 173 = .ok (.aload_n 1, 1) := by decide +kernel
theorem dL_law_174 : decode cL_law 174 = .ok (.aload_n 0, 1) := by decide +kernel
theorem dL_law_175 : decode cL_law 175 = .ok (.iload_n 3, 1) := by decide +kernel
theorem dL_law_176 : decode cL_law 176 = .ok (.iconst 1, 1) := by decide +kernel
theorem dL_law_177 : decode cL_law 177 = .ok (.iadd, 1) := by decide +kernel
theorem dL_law_178 : decode cL_law 178 = .ok (.iaload, 1) := by decide +kernel
theorem dL_law_179 : decode cL_law 179 = .ok (.invokevirtual 28, 3) := by decide +kernel
theorem dL_law_182 : decode cL_law 182 = .ok (.aload_n 2, 1) := by decide +kernel
theorem dL_law_183 : decode cL_law 183 = .ok (.aload_n 0, 1) := by decide +kernel
theorem dL_law_184 : decode cL_law 184 = .ok (.iload_n 3, 1) := by decide +kernel
theorem dL_law_185 : decode cL_law 185 = .ok (.iconst 1, 1) := by decide +kernel
theorem dL_law_186 : decode cL_law 186 = .ok (.iadd, 1) := by decide +kernel
theorem dL_law_187 : decode cL_law 187 = .ok (.iaload, 1) := by decide +kernel
theorem dL_law_188 : decode cL_law 188 = .ok (.invokevirtual 31, 3) := by decide +kernel
theorem dL_law_191 : decode cL_law 191 = .ok (.if_icmp .eq 185, 3) := by decide +kernel
theorem dL_law_194 : decode cL_law 194 = .ok (.iconst 0, 1) := by decide +kernel
theorem dL_law_195 : decode cL_law 195 = .ok (.ireturn, 1) := by decide +kernel
theorem dL_law_196 : decode cL_law 196 = .ok (.aload_n 1, 1) := by decide +kernel
theorem dL_law_197 : decode cL_law 197 = .ok (.aload_n 0, 1) := by decide +kernel
theorem dL_law_198 : decode cL_law 198 = .ok (.iload_n 3, 1) := by decide +kernel
theorem dL_law_199 : decode cL_law 199 = .ok (.iconst 1, 1) := by decide +kernel
theorem dL_law_200 : decode cL_law 200 = .ok (.iadd, 1) := by decide +kernel
theorem dL_law_201 : decode cL_law 201 = .ok (.iaload, 1) := by decide +kernel
theorem dL_law_202 : decode cL_law 202 = .ok (.invokevirtual 32, 3) := by decide +kernel
theorem dL_law_205 : decode cL_law 205 = .ok (.aload_n 2, 1) := by decide +kernel
theorem dL_law_206 : decode cL_law 206 = .ok (.aload_n 0, 1) := by decide +kernel
theorem dL_law_207 : decode cL_law 207 = .ok (.iload_n 3, 1) := by decide +kernel
theorem dL_law_208 : decode cL_law 208 = .ok (.iconst 1, 1) := by decide +kernel
theorem dL_law_209 : decode cL_law 209 = .ok (.iadd, 1) := by decide +kernel
theorem dL_law_210 : decode cL_law 210 = .ok (.iaload, 1) := by decide +kernel
theorem dL_law_211 : decode cL_law 211 = .ok (.invokevirtual 36, 3) := by decide +kernel
theorem dL_law_214 : decode cL_law 214 = .ok (.if_icmp .eq 162, 3) := by decide +kernel
theorem dL_law_217 : decode cL_law 217 = .ok (.iconst 0, 1) := by decide +kernel
theorem dL_law_218 : decode cL_law 218 = .ok (.ireturn, 1) := by decide +kernel
theorem dL_law_219 : decode cL_law 219 = .ok (.aload_n 1, 1) := by decide +kernel
theorem dL_law_220 : decode cL_law 220 = .ok (.invokevirtual 37, 3) := by decide +kernel
theorem dL_law_223 : decode cL_law 223 = .ok (.aload_n 2, 1) := by decide +kernel
theorem dL_law_224 : decode cL_law 224 = .ok (.invokevirtual 40, 3) := by decide +kernel
theorem dL_law_227 : decode cL_law 227 = .ok (.if_icmp .eq 149, 3) := by decide +kernel
theorem dL_law_230 : decode cL_law 230 = .ok (.iconst 0, 1) := by decide +kernel
theorem dL_law_231 : decode cL_law 231 = .ok (.ireturn, 1) := by decide +kernel
theorem dL_law_232 : decode cL_law 232 = .ok (.aload_n 1, 1) := by decide +kernel
theorem dL_law_233 : decode cL_law 233 = .ok (.aload_n 0, 1) := by decide +kernel
theorem dL_law_234 : decode cL_law 234 = .ok (.iload_n 3, 1) := by decide +kernel
theorem dL_law_235 : decode cL_law 235 = .ok (.iconst 1, 1) := by decide +kernel
theorem dL_law_236 : decode cL_law 236 = .ok (.iadd, 1) := by decide +kernel
theorem dL_law_237 : decode cL_law 237 = .ok (.iaload, 1) := by decide +kernel
theorem dL_law_238 : decode cL_law 238 = .ok (.invokevirtual 41, 3) := by decide +kernel
theorem dL_law_241 : decode cL_law 241 = .ok (.aload_n 2, 1) := by decide +kernel
theorem dL_law_242 : decode cL_law 242 = .ok (.aload_n 0, 1) := by decide +kernel
theorem dL_law_243 : decode cL_law 243 = .ok (.iload_n 3, 1) := by decide +kernel
theorem dL_law_244 : decode cL_law 244 = .ok (.iconst 1, 1) := by decide +kernel
theorem dL_law_245 : decode cL_law 245 = .ok (.iadd, 1) := by decide +kernel
theorem dL_law_246 : decode cL_law 246 = .ok (.iaload, 1) := by decide +kernel
theorem dL_law_247 : decode cL_law 247 = .ok (.invokevirtual 44, 3) := by decide +kernel
theorem dL_law_250 : decode cL_law 250 = .ok (.if_icmp .eq 126, 3) := by decide +kernel
theorem dL_law_253 : decode cL_law 253 = .ok (.iconst 0, 1) := by decide +kernel
theorem dL_law_254 : decode cL_law 254 = .ok (.ireturn, 1) := by decide +kernel
theorem dL_law_255 : decode cL_law 255 = .ok (.aload_n 1, 1) := by decide +kernel
theorem dL_law_256 : decode cL_law 256 = .ok (.invokevirtual 45, 3) := by decide +kernel
theorem dL_law_259 : decode cL_law 259 = .ok (.aload_n 2, 1) := by decide +kernel
theorem dL_law_260 : decode cL_law 260 = .ok (.invokevirtual 48, 3) := by decide +kernel
theorem dL_law_263 : decode cL_law 263 = .ok (.if_icmp .eq 113, 3) := by decide +kernel
theorem dL_law_266 : decode cL_law 266 = .ok (.iconst 0, 1) := by decide +kernel
theorem dL_law_267 : decode cL_law 267 = .ok (.ireturn, 1) := by decide +kernel
theorem dL_law_268 : decode cL_law 268 = .ok (.aload_n 1, 1) := by decide +kernel
theorem dL_law_269 : decode cL_law 269 = .ok (.aload_n 0, 1) := by decide +kernel
theorem dL_law_270 : decode cL_law 270 = .ok (.iload_n 3, 1) := by decide +kernel
theorem dL_law_271 : decode cL_law 271 = .ok (.iconst 1, 1) := by decide +kernel
theorem dL_law_272 : decode cL_law 272 = .ok (.iadd, 1) := by decide +kernel
theorem dL_law_273 : decode cL_law 273 = .ok (.iaload, 1) := by decide +kernel
theorem dL_law_274 : decode cL_law 274 = .ok (.invokevirtual 49, 3) := by decide +kernel
theorem dL_law_277 : decode cL_law 277 = .ok (.aload_n 2, 1) := by decide +kernel
theorem dL_law_278 : decode cL_law 278 = .ok (.aload_n 0, 1) := by decide +kernel
theorem dL_law_279 : decode cL_law 279 = .ok (.iload_n 3, 1) := by decide +kernel
theorem dL_law_280 : decode cL_law 280 = .ok (.iconst 1, 1) := by decide +kernel
theorem dL_law_281 : decode cL_law 281 = .ok (.iadd, 1) := by decide +kernel
theorem dL_law_282 : decode cL_law 282 = .ok (.iaload, 1) := by decide +kernel
theorem dL_law_283 : decode cL_law 283 = .ok (.invokevirtual 52, 3) := by decide +kernel
theorem dL_law_286 : decode cL_law 286 = .ok (.if_icmp .eq 90, 3) := by decide +kernel
theorem dL_law_289 : decode cL_law 289 = .ok (.iconst 0, 1) := by decide +kernel
theorem dL_law_290 : decode cL_law 290 = .ok (.ireturn, 1) := by decide +kernel
theorem dL_law_291 : decode cL_law 291 = .ok (.aload_n 1, 1) := by decide +kernel
theorem dL_law_292 : decode cL_law 292 = .ok (.invokevirtual 53, 3) := by decide +kernel
theorem dL_law_295 : decode cL_law 295 = .ok (.aload_n 2, 1) := by decide +kernel
theorem dL_law_296 : decode cL_law 296 = .ok (.invokevirtual 56, 3) := by decide +kernel
theorem dL_law_299 : decode cL_law 299 = .ok (.if_icmp .eq 77, 3) := by decide +kernel
theorem dL_law_302 : decode cL_law 302 = .ok (.iconst 0, 1) := by decide +kernel
theorem dL_law_303 : decode cL_law 303 = .ok (.ireturn, 1) := by decide +kernel
theorem dL_law_304 : decode cL_law 304 = .ok (.aload_n 1, 1) := by decide +kernel
theorem dL_law_305 : decode cL_law 305 = .ok (.invokevirtual 57, 3) := by decide +kernel
theorem dL_law_308 : decode cL_law 308 = .ok (.aload_n 2, 1) := by decide +kernel
theorem dL_law_309 : decode cL_law 309 = .ok (.invokevirtual 60, 3) := by decide +kernel
theorem dL_law_312 : decode cL_law 312 = .ok (.if_icmp .eq 64, 3) := by decide +kernel
theorem dL_law_315 : decode cL_law 315 = .ok (.iconst 0, 1) := by decide +kernel
theorem dL_law_316 : decode cL_law 316 = .ok (.ireturn, 1) := by decide +kernel
theorem dL_law_317 : decode cL_law 317 = .ok (.aload_n 1, 1) := by decide +kernel
theorem dL_law_318 : decode cL_law 318 = .ok (.invokevirtual 61, 3) := by decide +kernel
theorem dL_law_321 : decode cL_law 321 = .ok (.aload_n 2, 1) := by decide +kernel
theorem dL_law_322 : decode cL_law 322 = .ok (.invokevirtual 64, 3) := by decide +kernel
theorem dL_law_325 : decode cL_law 325 = .ok (.if_icmp .eq 51, 3) := by decide +kernel
theorem dL_law_328 : decode cL_law 328 = .ok (.iconst 0, 1) := by decide +kernel
theorem dL_law_329 : decode cL_law 329 = .ok (.ireturn, 1) := by decide +kernel
theorem dL_law_330 : decode cL_law 330 = .ok (.aload_n 1, 1) := by decide +kernel
theorem dL_law_331 : decode cL_law 331 = .ok (.invokevirtual 65, 3) := by decide +kernel
theorem dL_law_334 : decode cL_law 334 = .ok (.aload_n 2, 1) := by decide +kernel
theorem dL_law_335 : decode cL_law 335 = .ok (.invokevirtual 68, 3) := by decide +kernel
theorem dL_law_338 : decode cL_law 338 = .ok (.if_icmp .eq 38, 3) := by decide +kernel
theorem dL_law_341 : decode cL_law 341 = .ok (.iconst 0, 1) := by decide +kernel
theorem dL_law_342 : decode cL_law 342 = .ok (.ireturn, 1) := by decide +kernel
theorem dL_law_343 : decode cL_law 343 = .ok (.aload_n 1, 1) := by decide +kernel
theorem dL_law_344 : decode cL_law 344 = .ok (.aload_n 0, 1) := by decide +kernel
theorem dL_law_345 : decode cL_law 345 = .ok (.iload_n 3, 1) := by decide +kernel
theorem dL_law_346 : decode cL_law 346 = .ok (.iconst 1, 1) := by decide +kernel
theorem dL_law_347 : decode cL_law 347 = .ok (.iadd, 1) := by decide +kernel
theorem dL_law_348 : decode cL_law 348 = .ok (.iaload, 1) := by decide +kernel
theorem dL_law_349 : decode cL_law 349 = .ok (.aload_n 0, 1) := by decide +kernel
theorem dL_law_350 : decode cL_law 350 = .ok (.iload_n 3, 1) := by decide +kernel
theorem dL_law_351 : decode cL_law 351 = .ok (.iconst 2, 1) := by decide +kernel
theorem dL_law_352 : decode cL_law 352 = .ok (.iadd, 1) := by decide +kernel
theorem dL_law_353 : decode cL_law 353 = .ok (.iaload, 1) := by decide +kernel
theorem dL_law_354 : decode cL_law 354 = .ok (.invokevirtual 69, 3) := by decide +kernel
theorem dL_law_357 : decode cL_law 357 = .ok (.aload_n 2, 1) := by decide +kernel
theorem dL_law_358 : decode cL_law 358 = .ok (.aload_n 0, 1) := by decide +kernel
theorem dL_law_359 : decode cL_law 359 = .ok (.iload_n 3, 1) := by decide +kernel
theorem dL_law_360 : decode cL_law 360 = .ok (.iconst 1, 1) := by decide +kernel
theorem dL_law_361 : decode cL_law 361 = .ok (.iadd, 1) := by decide +kernel
theorem dL_law_362 : decode cL_law 362 = .ok (.iaload, 1) := by decide +kernel
theorem dL_law_363 : decode cL_law 363 = .ok (.aload_n 0, 1) := by decide +kernel
theorem dL_law_364 : decode cL_law 364 = .ok (.iload_n 3, 1) := by decide +kernel
theorem dL_law_365 : decode cL_law 365 = .ok (.iconst 2, 1) := by decide +kernel
theorem dL_law_366 : decode cL_law 366 = .ok (.iadd, 1) := by decide +kernel
theorem dL_law_367 : decode cL_law 367 = .ok (.iaload, 1) := by decide +kernel
theorem dL_law_368 : decode cL_law 368 = .ok (.invokevirtual 73, 3) := by decide +kernel
theorem dL_law_371 : decode cL_law 371 = .ok (.if_icmp .eq 5, 3) := by decide +kernel
theorem dL_law_374 : decode cL_law 374 = .ok (.iconst 0, 1) := by decide +kernel
theorem dL_law_375 : decode cL_law 375 = .ok (.ireturn, 1) := by decide +kernel
theorem dL_law_376 : decode cL_law 376 = .ok (.iinc 3 3, 3) := by decide +kernel
theorem dL_law_379 : decode cL_law 379 = .ok (.goto (-361), 3) := by decide +kernel
theorem dL_law_382 : decode cL_law 382 = .ok (.iconst 1, 1) := by decide +kernel
theorem dL_law_383 : decode cL_law 383 = .ok (.ireturn, 1) := by decide +kernel
end
section
/-! numbers: sets of at most 7 clauses and of 4 letters as Nats; Int32 and Int64 as their pictures -/
set_option maxRecDepth 100000
abbrev vwCl : List vw_C := [(RX0, TX0, 7), (RX1, TX1, 4)]
def bI (b : Bool) : Int32 := if b then 1 else 0
def oI (o : Option Nat) : Int32 := match o with
  | none => -1
  | some k => nI k
/-- a without b, bitwise -/
def nd (a b : Nat) : Nat := a ^^^ (a &&& b)
theorem tb_nd (a b i : Nat) : (nd a b).testBit i = (a.testBit i && !b.testBit i) := by
  unfold nd
  rw [Nat.testBit_xor, Nat.testBit_and]
  cases a.testBit i <;> cases b.testBit i <;> rfl
theorem nd_le (a b : Nat) : nd a b ≤ a := by
  apply Nat.le_of_testBit
  intro i h
  rw [tb_nd] at h
  revert h
  cases a.testBit i <;> simp
theorem nd_lt {a b c : Nat} (h : a < c) : nd a b < c := Nat.lt_of_le_of_lt (nd_le a b) h
theorem nd_zero {a b : Nat} : nd a b = 0 ↔ ∀ i, a.testBit i = true → b.testBit i = true := by
  constructor
  · intro h i hi
    have h2 := tb_nd a b i
    rw [h, Nat.zero_testBit, hi] at h2
    revert h2
    cases b.testBit i <;> simp
  · intro h
    apply Nat.eq_of_testBit_eq
    intro i
    rw [tb_nd, Nat.zero_testBit]
    cases hi : a.testBit i
    · rfl
    · rw [h i hi]; rfl
theorem nn_tb (a : Nat) : (nI a).toBitVec = BitVec.ofNat 32 a := rfl
theorem nn_and (a b : Nat) : nI a &&& nI b = nI (a &&& b) := by
  apply Int32.toBitVec_inj.1
  show BitVec.ofNat 32 a &&& BitVec.ofNat 32 b = BitVec.ofNat 32 (a &&& b)
  apply BitVec.eq_of_getLsbD_eq
  intro i hi
  simp [hi]
theorem nn_or (a b : Nat) : nI a ||| nI b = nI (a ||| b) := by
  apply Int32.toBitVec_inj.1
  show BitVec.ofNat 32 a ||| BitVec.ofNat 32 b = BitVec.ofNat 32 (a ||| b)
  apply BitVec.eq_of_getLsbD_eq
  intro i hi
  simp [hi]
theorem nn_m1 : ∀ i, i < 32 → ((-1 : Int32).toBitVec.getLsbD i) = true := by decide +kernel
theorem nn_andn (a b : Nat) : nI a &&& (nI b ^^^ (-1)) = nI (nd a b) := by
  apply Int32.toBitVec_inj.1
  apply BitVec.eq_of_getLsbD_eq
  intro i hi
  rw [Int32.toBitVec_and, Int32.toBitVec_xor, BitVec.getLsbD_and, BitVec.getLsbD_xor, nn_m1 i hi, nn_tb, nn_tb, nn_tb, BitVec.getLsbD_ofNat, BitVec.getLsbD_ofNat, BitVec.getLsbD_ofNat, tb_nd]
  simp [hi]
theorem nn_shl1 : ∀ k, k < 32 → nI 1 <<< (nI k &&& 31) = nI (2 ^ k) := by decide +kernel
theorem nn_sl : ∀ n, n < 32 → ((nI n &&& 31).toBitVec.smod 32).toNat = n := by decide +kernel
theorem nn_one : ∀ i, i < 32 → (nI 1).toBitVec.getLsbD i = decide (i = 0) := by decide +kernel
theorem nn_bI : ∀ (b : Bool) (i : Nat), i < 32 → (bI b).toBitVec.getLsbD i = (b && decide (i = 0)) := by
  intro b i hi
  cases b
  · show (0 : Int32).toBitVec.getLsbD i = _
    simp
  · exact nn_one i hi
theorem nn_bit (a k : Nat) (hk : k < 32) : (nI a >>> (nI k &&& 31)) &&& nI 1 = bI (a.testBit k) := by
  apply Int32.toBitVec_inj.1
  apply BitVec.eq_of_getLsbD_eq
  intro i hi
  rw [nn_bI _ _ hi, Int32.toBitVec_and, BitVec.getLsbD_and, nn_one i hi, Int32.toBitVec_shiftRight]
  show (((nI a).toBitVec.sshiftRight ((nI k &&& 31).toBitVec.smod 32).toNat).getLsbD i && decide (i = 0)) = _
  rw [nn_sl k hk, BitVec.getLsbD_sshiftRight]
  by_cases h0 : i = 0
  · subst h0
    simp [hk, nn_tb]
    rw [← BitVec.getLsbD_eq_getElem, BitVec.getLsbD_ofNat]
    simp [hk]
  · simp [h0]
theorem nn_shr {a : Nat} (h : a < 2 ^ 31) (k : Nat) (hk : k < 32) : nI a >>> (nI k &&& 31) = nI (a / 2 ^ k) := pk_shrN h _ k (nn_sl k hk)
theorem nn_63 {a : Nat} (h : a < 2 ^ 32) : nI a &&& nI 63 = nI (a % 64) := pk_andN h 6 (by decide +kernel)
theorem nn_eq {a b : Nat} (ha : a < 2 ^ 32) (hb : b < 2 ^ 32) : nI a = nI b ↔ a = b := by
  constructor
  · intro h
    have h1 := congrArg (fun z => z.toBitVec.toNat) h
    rwa [pk_tn ha, pk_tn hb] at h1
  · exact fun h => by rw [h]
theorem nn_eq0 {a : Nat} (ha : a < 2 ^ 32) : nI a = 0 ↔ a = 0 := by
  rw [← nI_0]
  exact nn_eq ha (by decide)
theorem nn_of (x : Int32) : ∃ a, a < 2 ^ 32 ∧ x = nI a := ⟨x.toBitVec.toNat, x.toBitVec.isLt, Int32.toBitVec_inj.mp (by show _ = BitVec.ofNat 32 _; simp)⟩
theorem bI_eq0 {b : Bool} : bI b = 0 ↔ b = false := by cases b <;> decide
theorem bI_01 (b : Bool) : bI b = 0 ∨ bI b = 1 := by cases b <;> decide
theorem bI_true : bI true = 1 := rfl
theorem bI_false : bI false = 0 := rfl
theorem nn_addB (a : Nat) (b : Bool) : nI a + bI b = nI (a + b.toNat) := by
  cases b
  · show nI a + nI 0 = _
    rw [nI_add]
    rfl
  · show nI a + nI 1 = _
    rw [nI_add]
    rfl
theorem oI_lt {o : Option Nat} (h : ∀ k, o = some k → k < 2 ^ 31) : oI o < 0 ↔ o = none := by
  cases o with
  | none => simp [oI]
  | some k => simp [oI]; exact nI_pos' (h k rfl)
theorem oI_ge {o : Option Nat} (h : ∀ k, o = some k → k < 2 ^ 31) : 0 ≤ oI o ↔ ∃ k, o = some k := by
  cases o with
  | none => simp [oI]
  | some k => simp [oI]; exact nI_pos' (h k rfl)
/-! longs: two words of 64 bits, a set's bit -/
theorem ln_c : ∀ k, k < 64 → ((nI k).toInt64 &&& 63) = lN k := by decide +kernel
theorem ln_cu : ∀ k, k < 64 → ((nI k).toInt64.toUInt64 &&& Int64.toUInt64 63) = UInt64.ofNat k := by decide +kernel
theorem ln_sm : ∀ k, k < 64 → (BitVec.ofNat 64 k).smod 64 = BitVec.ofNat 64 k := by decide +kernel
theorem ln_shl : ∀ k, k < 64 → (1 : Int64) <<< ((nI k).toInt64 &&& 63) = lN (2 ^ k) := by decide +kernel
theorem ln_one : ∀ i, i < 64 → (1 : Int64).toBitVec.getLsbD i = decide (i = 0) := by decide +kernel
theorem ln_bit (w : Int64) {k : Nat} (hk : k < 64) : (w.toUInt64 >>> ((nI k).toInt64.toUInt64 &&& Int64.toUInt64 63)).toInt64 &&& 1 = if w.toBitVec.getLsbD k then 1 else 0 := by
  rw [ln_cu k hk]
  have hs : (UInt64.ofNat k).toNat = k := by
    show (BitVec.ofNat 64 k).toNat = k
    rw [BitVec.toNat_ofNat, Nat.mod_eq_of_lt (by omega)]
  have e : (w.toUInt64 >>> UInt64.ofNat k).toInt64.toBitVec = w.toBitVec >>> k := by
    apply BitVec.eq_of_toNat_eq
    show (w.toUInt64 >>> UInt64.ofNat k).toNat = _
    rw [UInt64.toNat_shiftRight, hs, Nat.mod_eq_of_lt hk, BitVec.toNat_ushiftRight]
    rfl
  apply Int64.toBitVec_inj.1
  apply BitVec.eq_of_getLsbD_eq
  intro i hi
  rw [Int64.toBitVec_and, BitVec.getLsbD_and, e, BitVec.getLsbD_ushiftRight, ln_one i hi]
  by_cases h0 : i = 0
  · subst h0
    cases w.toBitVec.getLsbD k <;> simp
  · cases w.toBitVec.getLsbD k <;> simp [h0, ln_one i hi]
theorem ln_cmp (b : Bool) : lg_cmp (if b then 1 else 0) 0 = bI b := by cases b <;> decide
/-- the bit of the set s in two words -/
def wbit (f : Nat → Int64) (s : Nat) : Bool := if s < 64 then (f 0).toBitVec.getLsbD s else (f 1).toBitVec.getLsbD (s - 64)
/-- the bit of the set r put in -/
def setW (f : Nat → Int64) (r : Nat) : Nat → Int64 := vp_updL f (r / 64) (f (r / 64) ||| lN (2 ^ (r % 64)))
theorem ln_pow (k i : Nat) (hk : k < 64) (hi : i < 64) : (lN (2 ^ k)).toBitVec.getLsbD i = decide (i = k) := by
  show (BitVec.ofNat 64 (2 ^ k)).getLsbD i = _
  rw [BitVec.getLsbD_ofNat, Nat.testBit_two_pow]
  by_cases h : k = i
  · simp [h, hi]
  · simp [h, hi, Ne.symm h]
theorem wbit_set {f : Nat → Int64} {r s : Nat} (hr : r < 128) (hs : s < 128) : wbit (setW f r) s = (wbit f s || decide (s = r)) := by
  unfold wbit setW
  by_cases h1 : s < 64
  · rw [if_pos h1, if_pos h1]
    by_cases h2 : r < 64
    · have e : r / 64 = 0 := by omega
      rw [e, pk_uLs, Int64.toBitVec_or, BitVec.getLsbD_or, ln_pow _ _ (by omega) h1, show r % 64 = r by omega]
    · have e : r / 64 = 1 := by omega
      rw [e, pk_uLn (by decide), decide_eq_false (by omega), Bool.or_false]
  · rw [if_neg h1, if_neg h1]
    by_cases h2 : r < 64
    · have e : r / 64 = 0 := by omega
      rw [e, pk_uLn (by decide), decide_eq_false (by omega), Bool.or_false]
    · have e : r / 64 = 1 := by omega
      rw [e, pk_uLs, Int64.toBitVec_or, BitVec.getLsbD_or, ln_pow _ _ (by omega) (by omega), show r % 64 = r - 64 by omega]
      congr 1
      apply decide_eq_decide.mpr
      omega
end
section
/-! rows over Nat pictures, and contracts of methods that write nothing (PI), that write their world (MI, MV) -/
set_option maxRecDepth 100000
section NV
variable {p : Program} {l : Launch} {e : Env} {R : Room} {s : State} {m : MethodId} {args : Array Value} {below : List Frame} {meth : Method} {c : Code} {H : Heap} {locs : List Loc} {cells slots : Nat} {Q : State → Prop}
variable {cc : ByteArray} {pc : Nat} {ls : Array Slot} {rest : List Value}
theorem nv_e {x y : Int32} (h : x = y) (k : W p l e R s m args below meth c H locs cells slots Q (F0 m pc ls (.int y :: rest))) : W p l e R s m args below meth c H locs cells slots Q (F0 m pc ls (.int x :: rest)) := by
  rw [h]; exact k
theorem nv_el {x y : Int64} (h : x = y) (k : W p l e R s m args below meth c H locs cells slots Q (F0 m pc ls (.long y :: rest))) : W p l e R s m args below meth c H locs cells slots Q (F0 m pc ls (.long x :: rest)) := by
  rw [h]; exact k
theorem nv_and (hx : p.tables.exec = Jvm.exec) (hb : c.code = cc) {a b : Nat} (hdg : decode cc pc = .ok (.iand, 1)) (k : W p l e R s m args below meth c H locs cells slots Q (F0 m (pc + 1) ls (.int (nI (a &&& b)) :: rest))) : W p l e R s m args below meth c H locs cells slots Q (F0 m pc ls (.int (nI b) :: .int (nI a) :: rest)) := lv_iand hx hb hdg (nv_e (nn_and a b) k)
theorem nv_63 (hx : p.tables.exec = Jvm.exec) (hb : c.code = cc) {a : Nat} (ha : a < 2 ^ 32) (hdg : decode cc pc = .ok (.iand, 1)) (k : W p l e R s m args below meth c H locs cells slots Q (F0 m (pc + 1) ls (.int (nI (a % 64)) :: rest))) : W p l e R s m args below meth c H locs cells slots Q (F0 m pc ls (.int (nI 63) :: .int (nI a) :: rest)) := lv_iand hx hb hdg (nv_e (nn_63 ha) k)
theorem nv_andn (hx : p.tables.exec = Jvm.exec) (hb : c.code = cc) {a b : Nat} (hdg : decode cc pc = .ok (.iand, 1)) (k : W p l e R s m args below meth c H locs cells slots Q (F0 m (pc + 1) ls (.int (nI (nd a b)) :: rest))) : W p l e R s m args below meth c H locs cells slots Q (F0 m pc ls (.int (nI b ^^^ (-1)) :: .int (nI a) :: rest)) := lv_iand hx hb hdg (nv_e (nn_andn a b) k)
theorem nv_or (hx : p.tables.exec = Jvm.exec) (hb : c.code = cc) {a b : Nat} (hdg : decode cc pc = .ok (.ior, 1)) (k : W p l e R s m args below meth c H locs cells slots Q (F0 m (pc + 1) ls (.int (nI (a ||| b)) :: rest))) : W p l e R s m args below meth c H locs cells slots Q (F0 m pc ls (.int (nI b) :: .int (nI a) :: rest)) := lv_ior hx hb hdg (nv_e (nn_or a b) k)
theorem nv_shl1 (hx : p.tables.exec = Jvm.exec) (hb : c.code = cc) {j : Nat} (hj : j < 32) (hdg : decode cc pc = .ok (.ishl, 1)) (k : W p l e R s m args below meth c H locs cells slots Q (F0 m (pc + 1) ls (.int (nI (2 ^ j)) :: rest))) : W p l e R s m args below meth c H locs cells slots Q (F0 m pc ls (.int (nI j) :: .int (nI 1) :: rest)) := lv_ishl hx hb hdg (nv_e (nn_shl1 j hj) k)
theorem nv_bit (hx : p.tables.exec = Jvm.exec) (hb : c.code = cc) {a j : Nat} (hj : j < 32) (hdg : decode cc pc = .ok (.iand, 1)) (k : W p l e R s m args below meth c H locs cells slots Q (F0 m (pc + 1) ls (.int (bI (a.testBit j)) :: rest))) : W p l e R s m args below meth c H locs cells slots Q (F0 m pc ls (.int (nI 1) :: .int (nI a >>> (nI j &&& 31)) :: rest)) := lv_iand hx hb hdg (nv_e (nn_bit a j hj) k)
theorem nv_shr (hx : p.tables.exec = Jvm.exec) (hb : c.code = cc) {a j : Nat} (ha : a < 2 ^ 31) (hj : j < 32) (hdg : decode cc pc = .ok (.ishr, 1)) (k : W p l e R s m args below meth c H locs cells slots Q (F0 m (pc + 1) ls (.int (nI (a / 2 ^ j)) :: rest))) : W p l e R s m args below meth c H locs cells slots Q (F0 m pc ls (.int (nI j) :: .int (nI a) :: rest)) := lv_ishr hx hb hdg (nv_e (nn_shr ha j hj) k)
theorem nv_sub (hx : p.tables.exec = Jvm.exec) (hb : c.code = cc) {a b : Nat} (h : b ≤ a) (hdg : decode cc pc = .ok (.isub, 1)) (k : W p l e R s m args below meth c H locs cells slots Q (F0 m (pc + 1) ls (.int (nI (a - b)) :: rest))) : W p l e R s m args below meth c H locs cells slots Q (F0 m pc ls (.int (nI b) :: .int (nI a) :: rest)) := lv_isub hx hb hdg (nv_e (pk_sub h) k)
theorem nv_add (hx : p.tables.exec = Jvm.exec) (hb : c.code = cc) {a b : Nat} (hdg : decode cc pc = .ok (.iadd, 1)) (k : W p l e R s m args below meth c H locs cells slots Q (F0 m (pc + 1) ls (.int (nI (a + b)) :: rest))) : W p l e R s m args below meth c H locs cells slots Q (F0 m pc ls (.int (nI b) :: .int (nI a) :: rest)) := lv_iadd hx hb hdg (nv_e (nI_add a b) k)
theorem nv_addB (hx : p.tables.exec = Jvm.exec) (hb : c.code = cc) {a : Nat} {b : Bool} (hdg : decode cc pc = .ok (.iadd, 1)) (k : W p l e R s m args below meth c H locs cells slots Q (F0 m (pc + 1) ls (.int (nI (a + b.toNat)) :: rest))) : W p l e R s m args below meth c H locs cells slots Q (F0 m pc ls (.int (bI b) :: .int (nI a) :: rest)) := lv_iadd hx hb hdg (nv_e (nn_addB a b) k)
theorem nv_iconst (hx : p.tables.exec = Jvm.exec) (hb : c.code = cc) {n : Int} (v : Int32) (hdg : decode cc pc = .ok (.iconst n, 1)) (hv : Int32.ofInt n = v) (k : W p l e R s m args below meth c H locs cells slots Q (F0 m (pc + 1) ls (.int v :: rest))) : W p l e R s m args below meth c H locs cells slots Q (F0 m pc ls rest) := lv_iconst hx hb hdg hv k
theorem nv_eqN (hx : p.tables.exec = Jvm.exec) (hb : c.code = cc) {a : Nat} {off : Int} (tgt : Nat) (ha : a < 2 ^ 32) (hdg : decode cc pc = .ok (.ifCond .eq off, 3)) (ht : (pc : Int) + off = (tgt : Int)) (kt : a = 0 → W p l e R s m args below meth c H locs cells slots Q (F0 m tgt ls rest)) (kf : ¬ a = 0 → W p l e R s m args below meth c H locs cells slots Q (F0 m (pc + 3) ls rest)) : W p l e R s m args below meth c H locs cells slots Q (F0 m pc ls (.int (nI a) :: rest)) := lv_if_eq hx hb hdg ht (fun h => kt ((nn_eq0 ha).mp h)) (fun h => kf (fun z => h ((nn_eq0 ha).mpr z)))
theorem nv_neN (hx : p.tables.exec = Jvm.exec) (hb : c.code = cc) {a : Nat} {off : Int} (tgt : Nat) (ha : a < 2 ^ 32) (hdg : decode cc pc = .ok (.ifCond .ne off, 3)) (ht : (pc : Int) + off = (tgt : Int)) (kt : ¬ a = 0 → W p l e R s m args below meth c H locs cells slots Q (F0 m tgt ls rest)) (kf : a = 0 → W p l e R s m args below meth c H locs cells slots Q (F0 m (pc + 3) ls rest)) : W p l e R s m args below meth c H locs cells slots Q (F0 m pc ls (.int (nI a) :: rest)) := lv_if_ne hx hb hdg ht (fun h => kt (fun z => h ((nn_eq0 ha).mpr z))) (fun h => kf ((nn_eq0 ha).mp h))
theorem nv_eqB (hx : p.tables.exec = Jvm.exec) (hb : c.code = cc) {b : Bool} {off : Int} (tgt : Nat) (hdg : decode cc pc = .ok (.ifCond .eq off, 3)) (ht : (pc : Int) + off = (tgt : Int)) (kt : b = false → W p l e R s m args below meth c H locs cells slots Q (F0 m tgt ls rest)) (kf : b = true → W p l e R s m args below meth c H locs cells slots Q (F0 m (pc + 3) ls rest)) : W p l e R s m args below meth c H locs cells slots Q (F0 m pc ls (.int (bI b) :: rest)) := lv_if_eq hx hb hdg ht (fun h => kt (bI_eq0.mp h)) (fun h => kf (by cases b with | true => rfl | false => exact absurd rfl h))
theorem nv_neB (hx : p.tables.exec = Jvm.exec) (hb : c.code = cc) {b : Bool} {off : Int} (tgt : Nat) (hdg : decode cc pc = .ok (.ifCond .ne off, 3)) (ht : (pc : Int) + off = (tgt : Int)) (kt : b = true → W p l e R s m args below meth c H locs cells slots Q (F0 m tgt ls rest)) (kf : b = false → W p l e R s m args below meth c H locs cells slots Q (F0 m (pc + 3) ls rest)) : W p l e R s m args below meth c H locs cells slots Q (F0 m pc ls (.int (bI b) :: rest)) := by
  cases b with
  | true => exact lv_if_ne hx hb hdg ht (fun _ => kt rfl) (fun h => absurd h (show ¬ bI true = 0 by decide))
  | false => exact lv_if_ne hx hb hdg ht (fun h => absurd rfl h) (fun _ => kf rfl)
theorem nv_ltO (hx : p.tables.exec = Jvm.exec) (hb : c.code = cc) {o : Option Nat} {off : Int} (tgt : Nat) (ho : ∀ k, o = some k → k < 2 ^ 31) (hdg : decode cc pc = .ok (.ifCond .lt off, 3)) (ht : (pc : Int) + off = (tgt : Int)) (kt : o = none → W p l e R s m args below meth c H locs cells slots Q (F0 m tgt ls rest)) (kf : ∀ k, o = some k → W p l e R s m args below meth c H locs cells slots Q (F0 m (pc + 3) ls rest)) : W p l e R s m args below meth c H locs cells slots Q (F0 m pc ls (.int (oI o) :: rest)) := by
  refine lv_if_lt hx hb hdg ht (fun h => kt ((oI_lt ho).mp h)) (fun h => ?_)
  cases o with
  | none => exact absurd ((oI_lt ho).mpr rfl) h
  | some k => exact kf k rfl
theorem nv_geO (hx : p.tables.exec = Jvm.exec) (hb : c.code = cc) {o : Option Nat} {off : Int} (tgt : Nat) (ho : ∀ k, o = some k → k < 2 ^ 31) (hdg : decode cc pc = .ok (.ifCond .ge off, 3)) (ht : (pc : Int) + off = (tgt : Int)) (kt : ∀ k, o = some k → W p l e R s m args below meth c H locs cells slots Q (F0 m tgt ls rest)) (kf : o = none → W p l e R s m args below meth c H locs cells slots Q (F0 m (pc + 3) ls rest)) : W p l e R s m args below meth c H locs cells slots Q (F0 m pc ls (.int (oI o) :: rest)) := by
  refine lv_if_ge hx hb hdg ht (fun h => ?_) (fun h => ?_)
  · obtain ⟨k, hk⟩ := (oI_ge ho).mp h
    exact kt k hk
  · cases o with
    | none => exact kf rfl
    | some k => exact absurd ((oI_ge ho).mpr ⟨k, rfl⟩) h
theorem nv_ltN (hx : p.tables.exec = Jvm.exec) (hb : c.code = cc) {a : Nat} {off : Int} (tgt : Nat) (ha : a < 2 ^ 31) (hdg : decode cc pc = .ok (.ifCond .lt off, 3)) (ht : (pc : Int) + off = (tgt : Int)) (kf : W p l e R s m args below meth c H locs cells slots Q (F0 m (pc + 3) ls rest)) : W p l e R s m args below meth c H locs cells slots Q (F0 m pc ls (.int (nI a) :: rest)) := lv_if_lt hx hb hdg ht (fun h => absurd h (nI_pos ha)) (fun _ => kf)
theorem nv_cgeN (hx : p.tables.exec = Jvm.exec) (hb : c.code = cc) {a b : Nat} {off : Int} (tgt : Nat) (ha : a < 2 ^ 31) (hbb : b < 2 ^ 31) (hdg : decode cc pc = .ok (.if_icmp .ge off, 3)) (ht : (pc : Int) + off = (tgt : Int)) (kt : b ≤ a → W p l e R s m args below meth c H locs cells slots Q (F0 m tgt ls rest)) (kf : a < b → W p l e R s m args below meth c H locs cells slots Q (F0 m (pc + 3) ls rest)) : W p l e R s m args below meth c H locs cells slots Q (F0 m pc ls (.int (nI b) :: .int (nI a) :: rest)) := lv_icmp_ge hx hb hdg ht (fun h => kt ((nI_leI hbb ha).mp h)) (fun h => kf (Nat.lt_of_not_le (fun z => h ((nI_leI hbb ha).mpr z))))
theorem nv_cleN (hx : p.tables.exec = Jvm.exec) (hb : c.code = cc) {a b : Nat} {off : Int} (tgt : Nat) (ha : a < 2 ^ 31) (hbb : b < 2 ^ 31) (hdg : decode cc pc = .ok (.if_icmp .le off, 3)) (ht : (pc : Int) + off = (tgt : Int)) (kt : a ≤ b → W p l e R s m args below meth c H locs cells slots Q (F0 m tgt ls rest)) (kf : b < a → W p l e R s m args below meth c H locs cells slots Q (F0 m (pc + 3) ls rest)) : W p l e R s m args below meth c H locs cells slots Q (F0 m pc ls (.int (nI b) :: .int (nI a) :: rest)) := lv_icmp_le hx hb hdg ht (fun h => kt ((nI_leI ha hbb).mp h)) (fun h => kf (Nat.lt_of_not_le (fun z => h ((nI_leI ha hbb).mpr z))))
theorem nv_cneN (hx : p.tables.exec = Jvm.exec) (hb : c.code = cc) {a b : Nat} {off : Int} (tgt : Nat) (ha : a < 2 ^ 32) (hbb : b < 2 ^ 32) (hdg : decode cc pc = .ok (.if_icmp .ne off, 3)) (ht : (pc : Int) + off = (tgt : Int)) (kt : ¬ a = b → W p l e R s m args below meth c H locs cells slots Q (F0 m tgt ls rest)) (kf : a = b → W p l e R s m args below meth c H locs cells slots Q (F0 m (pc + 3) ls rest)) : W p l e R s m args below meth c H locs cells slots Q (F0 m pc ls (.int (nI b) :: .int (nI a) :: rest)) := lv_icmp_ne hx hb hdg ht (fun h => kt (fun z => h ((nn_eq ha hbb).mpr z))) (fun h => kf ((nn_eq ha hbb).mp h))
end NV
section NVA
variable {p : Program} {l : Launch} {e : Env} {R : Room} {s : State} {m : MethodId} {args : Array Value} {below : List Frame} {meth : Method} {c : Code} {H : Heap} {locs : List Loc} {cells slots : Nat} {Q : State → Prop}
variable {cc : ByteArray} {pc : Nat} {ls : Array Slot} {rest : List Value} {D : va_G} {cl : List vw_C} {A : Nat → Prop} {a : Nat} {tys : List (ClassId × FieldType)} {ws : va_W} {H0 : Heap}
theorem nv_iald (hexec : p.tables.exec = Jvm.exec) (hb : c.code = cc) (hK : va_K D cl tys s) (hP : va_P D cl ws H) (q0 t0 : Nat) {cA : ClassId} {n : Nat} {f : Nat → Int32} (ha : ws[q0]? = some (a, .inl (cA, n, .inl f))) (ht : tys[t0]? = some (cA, .int)) {j : Nat} (hj : j < n) (hn : n < 2 ^ 31) (hdg : decode cc pc = .ok (.iaload, 1)) (kk : W p l e R s m args below meth c H locs cells slots Q (F0 m (pc + 1) ls (.int (f j) :: rest))) : W p l e R s m args below meth c H locs cells slots Q (F0 m pc ls (.int (nI j) :: .ref a :: rest)) :=
  va_iald hexec hb hK hP q0 t0 ha ht (vp_in_nI hj hn) hdg (nv_e (by rw [nI_clamp (by omega)]) kk)
theorem nv_bald (hexec : p.tables.exec = Jvm.exec) (hb : c.code = cc) (hK : va_K D cl tys s) (hP : va_P D cl ws H) (q0 t0 : Nat) {cA : ClassId} {n : Nat} {f : Nat → Int32} (ha : ws[q0]? = some (a, .inl (cA, n, .inl f))) (ht : tys[t0]? = some (cA, .byte)) {j : Nat} (hj : j < n) (hn : n < 2 ^ 31) (hdg : decode cc pc = .ok (.baload, 1)) (kk : W p l e R s m args below meth c H locs cells slots Q (F0 m (pc + 1) ls (.int (f j) :: rest))) : W p l e R s m args below meth c H locs cells slots Q (F0 m pc ls (.int (nI j) :: .ref a :: rest)) :=
  va_bald hexec hb hK hP q0 t0 ha ht (vp_in_nI hj hn) hdg (nv_e (by rw [nI_clamp (by omega)]) kk)
theorem nv_zald (hexec : p.tables.exec = Jvm.exec) (hb : c.code = cc) (hK : va_K D cl tys s) (hP : va_P D cl ws H) (q0 t0 : Nat) {cA : ClassId} {n : Nat} {f : Nat → Int32} (ha : ws[q0]? = some (a, .inl (cA, n, .inl f))) (ht : tys[t0]? = some (cA, .boolean)) {j : Nat} (hj : j < n) (hn : n < 2 ^ 31) (hdg : decode cc pc = .ok (.baload, 1)) (kk : W p l e R s m args below meth c H locs cells slots Q (F0 m (pc + 1) ls (.int (f j) :: rest))) : W p l e R s m args below meth c H locs cells slots Q (F0 m pc ls (.int (nI j) :: .ref a :: rest)) :=
  va_zald hexec hb hK hP q0 t0 ha ht (vp_in_nI hj hn) hdg (nv_e (by rw [nI_clamp (by omega)]) kk)
theorem nv_lald (hexec : p.tables.exec = Jvm.exec) (hb : c.code = cc) (hK : va_K D cl tys s) (hP : va_P D cl ws H) (q0 t0 : Nat) {cA : ClassId} {n : Nat} {f : Nat → Int64} (ha : ws[q0]? = some (a, .inl (cA, n, .inr (.inl f)))) (ht : tys[t0]? = some (cA, .long)) {j : Nat} (hj : j < n) (hn : n < 2 ^ 31) (hdg : decode cc pc = .ok (.laload, 1)) (kk : W p l e R s m args below meth c H locs cells slots Q (F0 m (pc + 1) ls (.long (f j) :: rest))) : W p l e R s m args below meth c H locs cells slots Q (F0 m pc ls (.int (nI j) :: .ref a :: rest)) :=
  va_lald hexec hb hK hP q0 t0 ha ht (vp_in_nI hj hn) hdg (nv_el (by rw [nI_clamp (by omega)]) kk)
theorem nv_last (hexec : p.tables.exec = Jvm.exec) (hb : c.code = cc) (hK : va_K D cl tys s) (hP : va_P D cl ws H) (hD : va_D A ws) (hS : va_S A H0 H locs) (q0 t0 : Nat) {cA : ClassId} {n : Nat} {f : Nat → Int64} (ha : ws[q0]? = some (a, .inl (cA, n, .inr (.inl f)))) (ht : tys[t0]? = some (cA, .long)) {j : Nat} {x : Int64} (f' : Nat → Int64) (hj : j < n) (hn : n < 2 ^ 31) (hf : vp_updL f j x = f') (hdg : decode cc pc = .ok (.lastore, 1))
    (kk : ∀ (H1 : Heap) (locs1 : List Loc), va_P D cl (ws.set q0 (a, .inl (cA, n, .inr (.inl f')))) H1 → va_D A (ws.set q0 (a, .inl (cA, n, .inr (.inl f')))) → va_S A H0 H1 locs1 → W p l e R s m args below meth c H1 locs1 cells slots Q (F0 m (pc + 1) ls rest)) : W p l e R s m args below meth c H locs cells slots Q (F0 m pc ls (.long x :: .int (nI j) :: .ref a :: rest)) := by
  refine va_last hexec hb hK hP hD hS q0 t0 ha ht (vp_in_nI hj hn) hdg ?_
  rw [nI_clamp (by omega), hf]
  exact kk
theorem nv_iast (hexec : p.tables.exec = Jvm.exec) (hb : c.code = cc) (hK : va_K D cl tys s) (hP : va_P D cl ws H) (hD : va_D A ws) (hS : va_S A H0 H locs) (q0 t0 : Nat) {cA : ClassId} {n : Nat} {f : Nat → Int32} (ha : ws[q0]? = some (a, .inl (cA, n, .inl f))) (ht : tys[t0]? = some (cA, .int)) {j : Nat} {x : Int32} (f' : Nat → Int32) (hj : j < n) (hn : n < 2 ^ 31) (hf : upd f j x = f') (hdg : decode cc pc = .ok (.iastore, 1))
    (kk : ∀ (H1 : Heap) (locs1 : List Loc), va_P D cl (ws.set q0 (a, .inl (cA, n, .inl f'))) H1 → va_D A (ws.set q0 (a, .inl (cA, n, .inl f'))) → va_S A H0 H1 locs1 → W p l e R s m args below meth c H1 locs1 cells slots Q (F0 m (pc + 1) ls rest)) : W p l e R s m args below meth c H locs cells slots Q (F0 m pc ls (.int x :: .int (nI j) :: .ref a :: rest)) := by
  refine va_iast hexec hb hK hP hD hS q0 t0 ha ht (vp_in_nI hj hn) hdg ?_
  rw [nI_clamp (by omega), hf]
  exact kk
theorem nv_bast (hexec : p.tables.exec = Jvm.exec) (hb : c.code = cc) (hK : va_K D cl tys s) (hP : va_P D cl ws H) (hD : va_D A ws) (hS : va_S A H0 H locs) (q0 t0 : Nat) {cA : ClassId} {n : Nat} {f : Nat → Int32} (ha : ws[q0]? = some (a, .inl (cA, n, .inl f))) (ht : tys[t0]? = some (cA, .byte)) {j : Nat} {x : Int32} (f' : Nat → Int32) (hj : j < n) (hn : n < 2 ^ 31) (hf : upd f j (vp_nar .byte x) = f') (hdg : decode cc pc = .ok (.bastore, 1))
    (kk : ∀ (H1 : Heap) (locs1 : List Loc), va_P D cl (ws.set q0 (a, .inl (cA, n, .inl f'))) H1 → va_D A (ws.set q0 (a, .inl (cA, n, .inl f'))) → va_S A H0 H1 locs1 → W p l e R s m args below meth c H1 locs1 cells slots Q (F0 m (pc + 1) ls rest)) : W p l e R s m args below meth c H locs cells slots Q (F0 m pc ls (.int x :: .int (nI j) :: .ref a :: rest)) := by
  refine va_bast hexec hb hK hP hD hS q0 t0 ha ht (vp_in_nI hj hn) hdg ?_
  rw [nI_clamp (by omega), hf]
  exact kk
theorem nv_zast (hexec : p.tables.exec = Jvm.exec) (hb : c.code = cc) (hK : va_K D cl tys s) (hP : va_P D cl ws H) (hD : va_D A ws) (hS : va_S A H0 H locs) (q0 t0 : Nat) {cA : ClassId} {n : Nat} {f : Nat → Int32} (ha : ws[q0]? = some (a, .inl (cA, n, .inl f))) (ht : tys[t0]? = some (cA, .boolean)) {j : Nat} {x : Int32} (f' : Nat → Int32) (hj : j < n) (hn : n < 2 ^ 31) (hf : upd f j (vp_nar .boolean x) = f') (hdg : decode cc pc = .ok (.bastore, 1))
    (kk : ∀ (H1 : Heap) (locs1 : List Loc), va_P D cl (ws.set q0 (a, .inl (cA, n, .inl f'))) H1 → va_D A (ws.set q0 (a, .inl (cA, n, .inl f'))) → va_S A H0 H1 locs1 → W p l e R s m args below meth c H1 locs1 cells slots Q (F0 m (pc + 1) ls rest)) : W p l e R s m args below meth c H locs cells slots Q (F0 m pc ls (.int x :: .int (nI j) :: .ref a :: rest)) := by
  refine va_zast hexec hb hK hP hD hS q0 t0 ha ht (vp_in_nI hj hn) hdg ?_
  rw [nI_clamp (by omega), hf]
  exact kk
theorem nv_kept (hP : va_P D cl ws H) {H1 : Heap} {A1 : Nat → Prop} (hA : ∀ q, ¬ A1 q) (hk : ∀ q : Nat, q < H.size → ¬ A1 q → H1[q]? = H[q]?) : va_P D cl ws H1 := hP.kept (fun k q hq => hk q.1 ((hP k q hq).lt) (hA q.1))
end NVA
end
section
/-! contracts: PI writes nothing and answers V; MI writes its world ws, which becomes (wo u) with post u, and answers V; MV the same, void -/
set_option maxRecDepth 100000
def QP (below : List Frame) (V : Int32) (args : Array Value) (s : State) : State → Prop := MQ below (va_Qi (fun r (_ : Unit) => r = V) (fun _ _ => True) (fun _ => False)) args s 0 0 (fun _ => False)
def PI (l : Launch) (y : MethodName) (b : ByteArray) (L : Nat) (ret : Option FieldType) (rm : Room) (av : List Value) (D : va_G) (ws : va_W) (tys : List (ClassId × FieldType)) (V : Int32) : Prop :=
  Met l y (ws_ y b L ret) rm (va_Pc av (fun U => va_P D vwCl ws U.heap ∧ va_K D vwCl tys U)) (va_Qi (fun r (_ : Unit) => r = V) (fun _ _ => True) (fun _ => False)) 0 0 (fun _ => False)
theorem PI.of {l : Launch} {y : MethodName} {b : ByteArray} {L : Nat} {ret : Option FieldType} {rm : Room} {av : List Value} {D : va_G} {ws : va_W} {tys : List (ClassId × FieldType)} {V : Int32} (hy : plainName y.cls = true) (hL : (lg_sl av).length ≤ L)
    (body : ∀ (p : Program) (e : Env) (s : State) (m : MethodId) (below : List Frame) (meth : Method) (c : Code), p.tables.exec = Jvm.exec → c.code = b → meth.sig.returnType = ret → meth.locks = false → c.maxLocals = L → s.vm.findClass y.cls = some m.cls → (∀ w ∈ lw_all, w.before av.toArray s = true) → va_K D vwCl tys s →
      ∀ (H : Heap) (locs : List Loc), va_P D vwCl ws H → va_S (fun _ => False) s.heap H locs → ∀ ls : Array Slot, lv_has ls L (lv_args 0 av) → W p l e rm s m av.toArray below meth c H locs 0 0 (QP below V av.toArray s) (F0 m 0 ls [])) : PI l y b L ret rm av D ws tys V := by
  refine Met.ofW (cc := b) (maxL := L) (ret := ret) hy rfl ?_
  intro p e s m args below meth c s₁ B hml hv
  obtain ⟨rfl, hP, hK⟩ := hv
  have hts := atoms_spec (ws := ws_ y b L ret) B.pre
  have hts : ∀ w ∈ lw_all, w.before av.toArray s = true := fun w h => hts w (List.mem_cons_of_mem _ h)
  have hown : s.vm.findClass y.cls = some m.cls := findClass_of_methodNamed B.named
  have hl := lv_entry av (n := L) hL
  rw [lg_entry_eq]
  exact body p e s m below meth c B.exec B.bytes B.returns B.notSynchronized hml hown hts hK s.heap [] hP va_S.rf _ hl
section PIR
variable {p : Program} {l : Launch} {e : Env} {R : Room} {s : State} {m : MethodId} {args : Array Value} {below : List Frame} {meth : Method} {c : Code} {H : Heap} {locs : List Loc} {cells slots : Nat} {Q : State → Prop}
variable {cc : ByteArray} {pc : Nat} {ls : Array Slot} {rest : List Value} {V v : Int32}
theorem pi_ret (hx : p.tables.exec = Jvm.exec) (hb : c.code = cc) (hr : meth.sig.returnType = some .int) (hlocks : meth.locks = false) (hS : va_S (fun _ => False) s.heap H locs) (hv : v = V) (hdg : decode cc pc = .ok (.ireturn, 1)) : W p l e R s m args below meth c H locs 0 0 (QP below V args s) (F0 m pc ls [.int v]) :=
  W.iret hx hb hr (fun t ht _ => ⟨⟨v, (), rfl, hv, trivial⟩, hS.F ht⟩) hS.2.2 hdg hlocks
theorem pi_retz (hx : p.tables.exec = Jvm.exec) (hb : c.code = cc) (hr : meth.sig.returnType = some .boolean) (hlocks : meth.locks = false) (hS : va_S (fun _ => False) s.heap H locs) (hn : v = 0 ∨ v = 1) (hv : v = V) (hdg : decode cc pc = .ok (.ireturn, 1)) : W p l e R s m args below meth c H locs 0 0 (QP below V args s) (F0 m pc ls [.int v]) :=
  W.zret hx hb hr (by rcases hn with h | h <;> rw [h] <;> rfl) (fun t ht _ => ⟨⟨v, (), rfl, hv, trivial⟩, hS.F ht⟩) hS.2.2 hdg hlocks
end PIR
def QI {σ : Type} (below : List Frame) (A : Nat → Prop) (D : va_G) (V : Int32) (post : σ → Prop) (wo : σ → va_W) (args : Array Value) (s : State) : State → Prop := MQ below (va_Qi (fun r (u : σ) => r = V ∧ post u) (fun u t => va_P D vwCl (wo u) t.heap ∧ va_D A (wo u)) A) args s 0 0 A
def QV {σ : Type} (below : List Frame) (A : Nat → Prop) (D : va_G) (post : σ → Prop) (wo : σ → va_W) (args : Array Value) (s : State) : State → Prop := MQ below (va_Qv (fun (u : σ) => post u) (fun u t => va_P D vwCl (wo u) t.heap ∧ va_D A (wo u)) A) args s 0 0 A
def MI {σ : Type} (l : Launch) (y : MethodName) (b : ByteArray) (L : Nat) (ret : Option FieldType) (rm : Room) (av : List Value) (D : va_G) (ws : va_W) (tys : List (ClassId × FieldType)) (sz : Nat) (V : Int32) (post : σ → Prop) (wo : σ → va_W) : Prop :=
  Met l y (ws_ y b L ret) rm (va_Pc av (fun U => U.heap.size = sz ∧ va_P D vwCl ws U.heap ∧ va_K D vwCl tys U ∧ va_D (fun _ => True) ws)) (va_Qi (fun r (u : σ) => r = V ∧ post u) (fun u t => va_P D vwCl (wo u) t.heap ∧ va_D (va_A ws sz) (wo u)) (va_A ws sz)) 0 0 (va_A ws sz)
def MV {σ : Type} (l : Launch) (y : MethodName) (b : ByteArray) (L : Nat) (rm : Room) (av : List Value) (D : va_G) (ws : va_W) (tys : List (ClassId × FieldType)) (sz : Nat) (post : σ → Prop) (wo : σ → va_W) : Prop :=
  Met l y (ws_ y b L none) rm (va_Pc av (fun U => U.heap.size = sz ∧ va_P D vwCl ws U.heap ∧ va_K D vwCl tys U ∧ va_D (fun _ => True) ws)) (va_Qv (fun (u : σ) => post u) (fun u t => va_P D vwCl (wo u) t.heap ∧ va_D (va_A ws sz) (wo u)) (va_A ws sz)) 0 0 (va_A ws sz)
theorem MI.of {σ : Type} {l : Launch} {y : MethodName} {b : ByteArray} {L : Nat} {ret : Option FieldType} {rm : Room} {av : List Value} {D : va_G} {ws : va_W} {tys : List (ClassId × FieldType)} {sz : Nat} {V : Int32} {post : σ → Prop} {wo : σ → va_W} (hy : plainName y.cls = true) (hL : (lg_sl av).length ≤ L)
    (body : ∀ (p : Program) (e : Env) (s : State) (m : MethodId) (below : List Frame) (meth : Method) (c : Code), p.tables.exec = Jvm.exec → c.code = b → meth.sig.returnType = ret → meth.locks = false → c.maxLocals = L → s.vm.findClass y.cls = some m.cls → (∀ w ∈ lw_all, w.before av.toArray s = true) → va_K D vwCl tys s →
      ∀ (A : Nat → Prop), (∀ q : Nat, s.heap.size ≤ q → A q) → ∀ (H : Heap) (locs : List Loc), va_P D vwCl ws H → va_D A ws → va_S A s.heap H locs → ∀ ls : Array Slot, lv_has ls L (lv_args 0 av) → W p l e rm s m av.toArray below meth c H locs 0 0 (QI below A D V post wo av.toArray s) (F0 m 0 ls [])) : MI l y b L ret rm av D ws tys sz V post wo := by
  refine Met.ofW (cc := b) (maxL := L) (ret := ret) hy rfl ?_
  intro p e s m args below meth c s₁ B hml hv
  obtain ⟨rfl, hsz, hP, hK, hD0⟩ := hv
  have hts := atoms_spec (ws := ws_ y b L ret) B.pre
  have hts : ∀ w ∈ lw_all, w.before av.toArray s = true := fun w h => hts w (List.mem_cons_of_mem _ h)
  have hown : s.vm.findClass y.cls = some m.cls := findClass_of_methodNamed B.named
  have hl := lv_entry av (n := L) hL
  subst hsz
  have hD := hD0.self (sz := s.heap.size)
  rw [lg_entry_eq]
  exact body p e s m below meth c B.exec B.bytes B.returns B.notSynchronized hml hown hts hK (va_A ws s.heap.size) (fun q h => Or.inr h) s.heap [] hP hD va_S.rf _ hl
theorem MV.of {σ : Type} {l : Launch} {y : MethodName} {b : ByteArray} {L : Nat} {rm : Room} {av : List Value} {D : va_G} {ws : va_W} {tys : List (ClassId × FieldType)} {sz : Nat} {post : σ → Prop} {wo : σ → va_W} (hy : plainName y.cls = true) (hL : (lg_sl av).length ≤ L)
    (body : ∀ (p : Program) (e : Env) (s : State) (m : MethodId) (below : List Frame) (meth : Method) (c : Code), p.tables.exec = Jvm.exec → c.code = b → meth.sig.returnType = none → meth.locks = false → c.maxLocals = L → s.vm.findClass y.cls = some m.cls → (∀ w ∈ lw_all, w.before av.toArray s = true) → va_K D vwCl tys s →
      ∀ (A : Nat → Prop), (∀ q : Nat, s.heap.size ≤ q → A q) → ∀ (H : Heap) (locs : List Loc), va_P D vwCl ws H → va_D A ws → va_S A s.heap H locs → ∀ ls : Array Slot, lv_has ls L (lv_args 0 av) → W p l e rm s m av.toArray below meth c H locs 0 0 (QV below A D post wo av.toArray s) (F0 m 0 ls [])) : MV l y b L rm av D ws tys sz post wo := by
  refine Met.ofW (cc := b) (maxL := L) (ret := none) hy rfl ?_
  intro p e s m args below meth c s₁ B hml hv
  obtain ⟨rfl, hsz, hP, hK, hD0⟩ := hv
  have hts := atoms_spec (ws := ws_ y b L none) B.pre
  have hts : ∀ w ∈ lw_all, w.before av.toArray s = true := fun w h => hts w (List.mem_cons_of_mem _ h)
  have hown : s.vm.findClass y.cls = some m.cls := findClass_of_methodNamed B.named
  have hl := lv_entry av (n := L) hL
  subst hsz
  have hD := hD0.self (sz := s.heap.size)
  rw [lg_entry_eq]
  exact body p e s m below meth c B.exec B.bytes B.returns B.notSynchronized hml hown hts hK (va_A ws s.heap.size) (fun q h => Or.inr h) s.heap [] hP hD va_S.rf _ hl
section MIR
variable {σ : Type} {p : Program} {l : Launch} {e : Env} {R : Room} {s : State} {m : MethodId} {args : Array Value} {below : List Frame} {meth : Method} {c : Code} {H : Heap} {locs : List Loc}
variable {cc : ByteArray} {pc : Nat} {ls : Array Slot} {V v : Int32} {A : Nat → Prop} {D : va_G} {post : σ → Prop} {wo : σ → va_W}
theorem mi_ret (hx : p.tables.exec = Jvm.exec) (hb : c.code = cc) (hr : meth.sig.returnType = some .int) (hlocks : meth.locks = false) (hS : va_S A s.heap H locs) (u : σ) (hP : va_P D vwCl (wo u) H) (hD : va_D A (wo u)) (hu : post u) (hv : v = V) (hdg : decode cc pc = .ok (.ireturn, 1)) : W p l e R s m args below meth c H locs 0 0 (QI below A D V post wo args s) (F0 m pc ls [.int v]) :=
  W.iret hx hb hr (fun t ht _ => ⟨⟨v, u, rfl, ⟨hv, hu⟩, by rw [ht]; exact hP, hD⟩, hS.F ht⟩) hS.2.2 hdg hlocks
theorem mi_retz (hx : p.tables.exec = Jvm.exec) (hb : c.code = cc) (hr : meth.sig.returnType = some .boolean) (hlocks : meth.locks = false) (hS : va_S A s.heap H locs) (u : σ) (hP : va_P D vwCl (wo u) H) (hD : va_D A (wo u)) (hu : post u) (hn : v = 0 ∨ v = 1) (hv : v = V) (hdg : decode cc pc = .ok (.ireturn, 1)) : W p l e R s m args below meth c H locs 0 0 (QI below A D V post wo args s) (F0 m pc ls [.int v]) :=
  W.zret hx hb hr (by rcases hn with h | h <;> rw [h] <;> rfl) (fun t ht _ => ⟨⟨v, u, rfl, ⟨hv, hu⟩, by rw [ht]; exact hP, hD⟩, hS.F ht⟩) hS.2.2 hdg hlocks
theorem mv_ret (hx : p.tables.exec = Jvm.exec) (hb : c.code = cc) (hr : meth.sig.returnType = none) (hlocks : meth.locks = false) (hS : va_S A s.heap H locs) (u : σ) (hP : va_P D vwCl (wo u) H) (hD : va_D A (wo u)) (hu : post u) (hdg : decode cc pc = .ok (.return_, 1)) : W p l e R s m args below meth c H locs 0 0 (QV below A D post wo args s) (F0 m pc ls []) :=
  W.vret hx hb hr (fun t ht _ => ⟨⟨u, rfl, hu, by rw [ht]; exact hP, hD⟩, hS.F ht⟩) hS.2.2 hdg hlocks
end MIR
section CALLS
variable {p : Program} {l : Launch} {e : Env} {R : Room} {s : State} {m : MethodId} {args : Array Value} {below : List Frame} {meth : Method} {c : Code} {H : Heap} {locs : List Loc} {cells slots : Nat} {Q : State → Prop}
variable {cc : ByteArray} {pc : Nat} {ls : Array Slot} {rest st0 : List Value} {A0 : Nat → Prop} {H0 : Heap} {nL : Nat}
variable {own C : String} {idx : Nat} {y : MethodName} {b : ByteArray} {L : Nat} {ret : Option FieldType} {rm : Room} {a : Nat} {D : va_G} {ws ws0 : va_W} {tys : List (ClassId × FieldType)} {V : Int32}
/-- a call of a method that writes nothing, on an object -/
theorem pi_callV (S : CallFix p m c cc nL s args lw_all own) (As : List Value) (hM : PI l y b L ret rm (.ref a :: As) D ws tys V) (hw : GoodIn lw_all (wsV own idx C y (ws_ y b L ret)))
    (hd : y.cls = C ∧ y.cls ≠ "java/lang/invoke/MethodHandle" ∧ y.cls ≠ "java/lang/invoke/VarHandle" ∧ (parseMethodDescriptor y.desc).map (fun d => d.parameters.length) = some As.length) (hR : rm.frames + 1 ≤ R.frames ∧ 8 + (L + 11) + rm.locals ≤ R.locals) (hrc : rm.cells = 0 ∧ rm.slots = 0)
    (hKc : va_K D vwCl tys s) (hPc : va_P D vwCl ws H) {q0 ci : Nat} {q : vw_C} {fs : List Value} (hc : vwCl[ci]? = some q) (he : ws[q0]? = some (a, .inr (ci, fs))) (hq : q.1 = C)
    (hsize : ls.size = nL) (hst : st0 = As.reverse ++ .ref a :: rest) (hW : (rest.map fun v => v.category).sum ≤ 8) (hdg : decode cc pc = .ok (.invokevirtual idx, 3)) (hcs : cells ≤ R.cells ∧ slots ≤ R.slots)
    (hP0 : va_P D vwCl ws0 H) (hS : va_S A0 H0 H locs) (kk : ∀ (H1 : Heap) (locs1 : List Loc), va_P D vwCl ws0 H1 → va_S A0 H0 H1 locs1 → W p l e R s m args below meth c H1 locs1 cells slots Q (F0 m (pc + 3) ls (.int V :: rest))) :
    W p l e R s m args below meth c H locs cells slots Q (F0 m pc ls st0) := by
  subst hq
  refine va_calli (va_runV (As := As) (rest := rest) S hM (cwV As.length S.2.2.2.2 hw rfl hrc.1 hrc.2 hd hR) ⟨?_, va_recv hKc hPc hc he, ?_⟩ rfl rfl hsize hst (lv_room hW) hdg ⟨hcs.1, hcs.2⟩) hS (fun q _ h => h.elim) (fun q h => h.elim) (fun r u t H1 locs1 ht hvm hp hB hz hk hS1 => ?_)
  · intro a' U g mk q
    obtain ⟨q0, qP, qK⟩ := q
    exact ⟨q0, qP, va_K.moved (u := U) (U := U.calling g mk a') (Vm.Alike.refl U.vm) qK⟩
  · intro U hU hW
    exact ⟨rfl, by rw [hU]; exact hPc, va_K.moved hW.alike hKc⟩
  · have hp : r = V := hp
    subst hp
    exact kk H1 locs1 (nv_kept hP0 (fun q h => h) hk) hS1
/-- a static call of a method that writes nothing -/
theorem pi_callS (S : CallFix p m c cc nL s args lw_all own) (As : List Value) (hM : PI l y b L ret rm As D ws tys V) (hw : GoodIn lw_all (va_wsS own idx y (ws_ y b L ret)))
    (hd : y.cls ≠ "java/lang/invoke/MethodHandle" ∧ y.cls ≠ "java/lang/invoke/VarHandle" ∧ (parseMethodDescriptor y.desc).map (fun d => d.parameters.length) = some As.length) (hR : rm.frames + 1 ≤ R.frames ∧ 8 + (L + 11) + rm.locals ≤ R.locals) (hrc : rm.cells = 0 ∧ rm.slots = 0)
    (hKc : va_K D vwCl tys s) (hPc : va_P D vwCl ws H)
    (hsize : ls.size = nL) (hst : st0 = As.reverse ++ rest) (hW : (rest.map fun v => v.category).sum ≤ 8) (hdg : decode cc pc = .ok (.invokestatic idx, 3)) (hcs : cells ≤ R.cells ∧ slots ≤ R.slots)
    (hP0 : va_P D vwCl ws0 H) (hS : va_S A0 H0 H locs) (kk : ∀ (H1 : Heap) (locs1 : List Loc), va_P D vwCl ws0 H1 → va_S A0 H0 H1 locs1 → W p l e R s m args below meth c H1 locs1 cells slots Q (F0 m (pc + 3) ls (.int V :: rest))) :
    W p l e R s m args below meth c H locs cells slots Q (F0 m pc ls st0) := by
  refine va_calli (va_runS (As := As) (rest := rest) S hM (va_cwS As.length S.2.2.2.2 hw rfl hrc.1 hrc.2 hd hR) ⟨?_, ?_⟩ rfl rfl hsize hst (lv_room hW) hdg ⟨hcs.1, hcs.2⟩) hS (fun q _ h => h.elim) (fun q h => h.elim) (fun r u t H1 locs1 ht hvm hp hB hz hk hS1 => ?_)
  · intro a' U g mk q
    obtain ⟨q0, qP, qK⟩ := q
    exact ⟨q0, qP, va_K.moved (u := U) (U := U.calling g mk a') (Vm.Alike.refl U.vm) qK⟩
  · intro U hU hW
    exact ⟨rfl, by rw [hU]; exact hPc, va_K.moved hW.alike hKc⟩
  · have hp : r = V := hp
    subst hp
    exact kk H1 locs1 (nv_kept hP0 (fun q h => h) hk) hS1
/-- a call of a method that writes its world, on an object: isC the callee's cells among ws0, isR the rest -/
theorem mi_callV {σ : Type} {post : σ → Prop} {wo : σ → va_W} {wr : va_W} (S : CallFix p m c cc nL s args lw_all own) (As : List Value) (hM : ∀ sz, MI l y b L ret rm (.ref a :: As) D ws tys sz V post wo) (hw : GoodIn lw_all (wsV own idx C y (ws_ y b L ret)))
    (hd : y.cls = C ∧ y.cls ≠ "java/lang/invoke/MethodHandle" ∧ y.cls ≠ "java/lang/invoke/VarHandle" ∧ (parseMethodDescriptor y.desc).map (fun d => d.parameters.length) = some As.length) (hR : rm.frames + 1 ≤ R.frames ∧ 8 + (L + 11) + rm.locals ≤ R.locals) (hrc : rm.cells = 0 ∧ rm.slots = 0)
    (hKc : va_K D vwCl tys s) (isC isR : List Nat) (hC : isC.map (fun i => ws0[i]?) = ws.map some) (hn : va_nd isC = true) (hRr : isR.map (fun i => ws0[i]?) = wr.map some) (hnR : va_nd isR = true) (hdis : ∀ i ∈ isR, i ∉ isC) (hf : isC.filterMap (fun i => ws0[i]?) = ws) {q0 ci : Nat} {q : vw_C} {fs : List Value} (hc : vwCl[ci]? = some q) (he : ws[q0]? = some (a, .inr (ci, fs))) (hq : q.1 = C)
    (hsize : ls.size = nL) (hst : st0 = As.reverse ++ .ref a :: rest) (hW : (rest.map fun v => v.category).sum ≤ 8) (hdg : decode cc pc = .ok (.invokevirtual idx, 3)) (hcs : cells ≤ R.cells ∧ slots ≤ R.slots)
    (hA : ∀ q, H0.size ≤ q → A0 q) (hP0 : va_P D vwCl ws0 H) (hD0 : va_D A0 ws0) (hS : va_S A0 H0 H locs) (kk : ∀ (u : σ) (H1 : Heap) (locs1 : List Loc), post u → va_P D vwCl (wr ++ wo u) H1 → va_D A0 (wr ++ wo u) → va_S A0 H0 H1 locs1 → W p l e R s m args below meth c H1 locs1 cells slots Q (F0 m (pc + 3) ls (.int V :: rest))) :
    W p l e R s m args below meth c H locs cells slots Q (F0 m pc ls st0) := by
  subst hq
  have hPc : va_P D vwCl ws H := hP0.sub isC hf
  have hDc : va_D A0 ws := hD0.sub isC hn hC
  have hFc := va_free hD0 hS hA isC hC
  refine va_calli (va_runV (As := As) (rest := rest) S (hM H.size) (cwV As.length S.2.2.2.2 hw rfl hrc.1 hrc.2 hd hR) ⟨?_, va_recv hKc hPc hc he, ?_⟩ rfl rfl hsize hst (lv_room hW) hdg ⟨hcs.1, hcs.2⟩) hS (fun q _ h => hFc q h) hFc (fun r u t H1 locs1 ht hvm hp hB hz hk hS1 => ?_)
  · intro a' U g mk q
    obtain ⟨q0, q1, qP, qK, qD⟩ := q
    exact ⟨q0, q1, qP, va_K.moved (u := U) (U := U.calling g mk a') (Vm.Alike.refl U.vm) qK, qD⟩
  · intro U hU hW
    exact ⟨rfl, by rw [hU], by rw [hU]; exact hPc, va_K.moved hW.alike hKc, hDc.weaken (fun _ _ _ _ => trivial)⟩
  · obtain ⟨hp, hu⟩ := hp
    subst hp
    obtain ⟨hP1, hD1⟩ := hB
    rw [ht] at hP1
    obtain ⟨hP, hD⟩ := va_join hP0 hD0 isC isR hC hRr hnR hdis hk hFc hP1 hD1
    exact kk u H1 locs1 hu hP hD hS1
/-- the same, void -/
theorem mv_callV {σ : Type} {post : σ → Prop} {wo : σ → va_W} {wr : va_W} (S : CallFix p m c cc nL s args lw_all own) (As : List Value) (hM : ∀ sz, MV l y b L rm (.ref a :: As) D ws tys sz post wo) (hw : GoodIn lw_all (wsV own idx C y (ws_ y b L none)))
    (hd : y.cls = C ∧ y.cls ≠ "java/lang/invoke/MethodHandle" ∧ y.cls ≠ "java/lang/invoke/VarHandle" ∧ (parseMethodDescriptor y.desc).map (fun d => d.parameters.length) = some As.length) (hR : rm.frames + 1 ≤ R.frames ∧ 8 + (L + 11) + rm.locals ≤ R.locals) (hrc : rm.cells = 0 ∧ rm.slots = 0)
    (hKc : va_K D vwCl tys s) (isC isR : List Nat) (hC : isC.map (fun i => ws0[i]?) = ws.map some) (hn : va_nd isC = true) (hRr : isR.map (fun i => ws0[i]?) = wr.map some) (hnR : va_nd isR = true) (hdis : ∀ i ∈ isR, i ∉ isC) (hf : isC.filterMap (fun i => ws0[i]?) = ws) {q0 ci : Nat} {q : vw_C} {fs : List Value} (hc : vwCl[ci]? = some q) (he : ws[q0]? = some (a, .inr (ci, fs))) (hq : q.1 = C)
    (hsize : ls.size = nL) (hst : st0 = As.reverse ++ .ref a :: rest) (hW : (rest.map fun v => v.category).sum ≤ 8) (hdg : decode cc pc = .ok (.invokevirtual idx, 3)) (hcs : cells ≤ R.cells ∧ slots ≤ R.slots)
    (hA : ∀ q, H0.size ≤ q → A0 q) (hP0 : va_P D vwCl ws0 H) (hD0 : va_D A0 ws0) (hS : va_S A0 H0 H locs) (kk : ∀ (u : σ) (H1 : Heap) (locs1 : List Loc), post u → va_P D vwCl (wr ++ wo u) H1 → va_D A0 (wr ++ wo u) → va_S A0 H0 H1 locs1 → W p l e R s m args below meth c H1 locs1 cells slots Q (F0 m (pc + 3) ls rest)) :
    W p l e R s m args below meth c H locs cells slots Q (F0 m pc ls st0) := by
  subst hq
  have hPc : va_P D vwCl ws H := hP0.sub isC hf
  have hDc : va_D A0 ws := hD0.sub isC hn hC
  have hFc := va_free hD0 hS hA isC hC
  refine va_callv (va_runV (As := As) (rest := rest) S (hM H.size) (cwV As.length S.2.2.2.2 hw rfl hrc.1 hrc.2 hd hR) ⟨?_, va_recv hKc hPc hc he, ?_⟩ rfl rfl hsize hst (lv_room hW) hdg ⟨hcs.1, hcs.2⟩) hS (fun q _ h => hFc q h) hFc (fun u t H1 locs1 ht hvm hu hB hz hk hS1 => ?_)
  · intro a' U g mk q
    obtain ⟨q0, q1, qP, qK, qD⟩ := q
    exact ⟨q0, q1, qP, va_K.moved (u := U) (U := U.calling g mk a') (Vm.Alike.refl U.vm) qK, qD⟩
  · intro U hU hW
    exact ⟨rfl, by rw [hU], by rw [hU]; exact hPc, va_K.moved hW.alike hKc, hDc.weaken (fun _ _ _ _ => trivial)⟩
  · obtain ⟨hP1, hD1⟩ := hB
    rw [ht] at hP1
    obtain ⟨hP, hD⟩ := va_join hP0 hD0 isC isR hC hRr hnR hdis hk hFc hP1 hD1
    exact kk u H1 locs1 hu hP hD hS1
end CALLS
end
section
set_option maxRecDepth 100000
theorem hdX0_isSet : yX0_isSet.cls ≠ "java/lang/invoke/MethodHandle" ∧ yX0_isSet.cls ≠ "java/lang/invoke/VarHandle" ∧ (parseMethodDescriptor yX0_isSet.desc).map (fun d => d.parameters.length) = some 1 := by decide +kernel
theorem hdX0_has : yX0_has.cls = "CoreFinder" ∧ yX0_has.cls ≠ "java/lang/invoke/MethodHandle" ∧ yX0_has.cls ≠ "java/lang/invoke/VarHandle" ∧ (parseMethodDescriptor yX0_has.desc).map (fun d => d.parameters.length) = some 1 := by decide +kernel
theorem hdX0_holdsTogether : yX0_holdsTogether.cls = "CoreFinder" ∧ yX0_holdsTogether.cls ≠ "java/lang/invoke/MethodHandle" ∧ yX0_holdsTogether.cls ≠ "java/lang/invoke/VarHandle" ∧ (parseMethodDescriptor yX0_holdsTogether.desc).map (fun d => d.parameters.length) = some 1 := by decide +kernel
theorem hdX0_solve : yX0_solve.cls = "CoreFinder" ∧ yX0_solve.cls ≠ "java/lang/invoke/MethodHandle" ∧ yX0_solve.cls ≠ "java/lang/invoke/VarHandle" ∧ (parseMethodDescriptor yX0_solve.desc).map (fun d => d.parameters.length) = some 3 := by decide +kernel
theorem hdX0_broken : yX0_broken.cls = "CoreFinder" ∧ yX0_broken.cls ≠ "java/lang/invoke/MethodHandle" ∧ yX0_broken.cls ≠ "java/lang/invoke/VarHandle" ∧ (parseMethodDescriptor yX0_broken.desc).map (fun d => d.parameters.length) = some 3 := by decide +kernel
theorem hdX0_learn : yX0_learn.cls = "CoreFinder" ∧ yX0_learn.cls ≠ "java/lang/invoke/MethodHandle" ∧ yX0_learn.cls ≠ "java/lang/invoke/VarHandle" ∧ (parseMethodDescriptor yX0_learn.desc).map (fun d => d.parameters.length) = some 0 := by decide +kernel
theorem hdX0_undecided : yX0_undecided.cls = "CoreFinder" ∧ yX0_undecided.cls ≠ "java/lang/invoke/MethodHandle" ∧ yX0_undecided.cls ≠ "java/lang/invoke/VarHandle" ∧ (parseMethodDescriptor yX0_undecided.desc).map (fun d => d.parameters.length) = some 0 := by decide +kernel
theorem hdX0_isDecided : yX0_isDecided.cls = "CoreFinder" ∧ yX0_isDecided.cls ≠ "java/lang/invoke/MethodHandle" ∧ yX0_isDecided.cls ≠ "java/lang/invoke/VarHandle" ∧ (parseMethodDescriptor yX0_isDecided.desc).map (fun d => d.parameters.length) = some 1 := by decide +kernel
theorem hdX0_inWords : yX0_inWords.cls ≠ "java/lang/invoke/MethodHandle" ∧ yX0_inWords.cls ≠ "java/lang/invoke/VarHandle" ∧ (parseMethodDescriptor yX0_inWords.desc).map (fun d => d.parameters.length) = some 3 := by decide +kernel
theorem hdX0_grow : yX0_grow.cls = "CoreFinder" ∧ yX0_grow.cls ≠ "java/lang/invoke/MethodHandle" ∧ yX0_grow.cls ≠ "java/lang/invoke/VarHandle" ∧ (parseMethodDescriptor yX0_grow.desc).map (fun d => d.parameters.length) = some 1 := by decide +kernel
theorem hdX0_shrink : yX0_shrink.cls = "CoreFinder" ∧ yX0_shrink.cls ≠ "java/lang/invoke/MethodHandle" ∧ yX0_shrink.cls ≠ "java/lang/invoke/VarHandle" ∧ (parseMethodDescriptor yX0_shrink.desc).map (fun d => d.parameters.length) = some 1 := by decide +kernel
theorem hdX0_isCore : yX0_isCore.cls = "CoreFinder" ∧ yX0_isCore.cls ≠ "java/lang/invoke/MethodHandle" ∧ yX0_isCore.cls ≠ "java/lang/invoke/VarHandle" ∧ (parseMethodDescriptor yX0_isCore.desc).map (fun d => d.parameters.length) = some 1 := by decide +kernel
theorem hdX0_isRepair : yX0_isRepair.cls = "CoreFinder" ∧ yX0_isRepair.cls ≠ "java/lang/invoke/MethodHandle" ∧ yX0_isRepair.cls ≠ "java/lang/invoke/VarHandle" ∧ (parseMethodDescriptor yX0_isRepair.desc).map (fun d => d.parameters.length) = some 1 := by decide +kernel
theorem hdX0_ones : yX0_ones.cls ≠ "java/lang/invoke/MethodHandle" ∧ yX0_ones.cls ≠ "java/lang/invoke/VarHandle" ∧ (parseMethodDescriptor yX0_ones.desc).map (fun d => d.parameters.length) = some 1 := by decide +kernel
theorem hdX1_letters : yX1_letters.cls = "CoreFinderModel" ∧ yX1_letters.cls ≠ "java/lang/invoke/MethodHandle" ∧ yX1_letters.cls ≠ "java/lang/invoke/VarHandle" ∧ (parseMethodDescriptor yX1_letters.desc).map (fun d => d.parameters.length) = some 1 := by decide +kernel
theorem hdX1_witness : yX1_witness.cls = "CoreFinderModel" ∧ yX1_witness.cls ≠ "java/lang/invoke/MethodHandle" ∧ yX1_witness.cls ≠ "java/lang/invoke/VarHandle" ∧ (parseMethodDescriptor yX1_witness.desc).map (fun d => d.parameters.length) = some 1 := by decide +kernel
theorem hdX1_allHold : yX1_allHold.cls = "CoreFinderModel" ∧ yX1_allHold.cls ≠ "java/lang/invoke/MethodHandle" ∧ yX1_allHold.cls ≠ "java/lang/invoke/VarHandle" ∧ (parseMethodDescriptor yX1_allHold.desc).map (fun d => d.parameters.length) = some 2 := by decide +kernel
theorem hdX1_holds : yX1_holds.cls = "CoreFinderModel" ∧ yX1_holds.cls ≠ "java/lang/invoke/MethodHandle" ∧ yX1_holds.cls ≠ "java/lang/invoke/VarHandle" ∧ (parseMethodDescriptor yX1_holds.desc).map (fun d => d.parameters.length) = some 3 := by decide +kernel
theorem hdX1_work : yX1_work.cls = "CoreFinderModel" ∧ yX1_work.cls ≠ "java/lang/invoke/MethodHandle" ∧ yX1_work.cls ≠ "java/lang/invoke/VarHandle" ∧ (parseMethodDescriptor yX1_work.desc).map (fun d => d.parameters.length) = some 0 := by decide +kernel
theorem hdX1_consistent : yX1_consistent.cls = "CoreFinderModel" ∧ yX1_consistent.cls ≠ "java/lang/invoke/MethodHandle" ∧ yX1_consistent.cls ≠ "java/lang/invoke/VarHandle" ∧ (parseMethodDescriptor yX1_consistent.desc).map (fun d => d.parameters.length) = some 1 := by decide +kernel
theorem hdX1_isCore : yX1_isCore.cls = "CoreFinderModel" ∧ yX1_isCore.cls ≠ "java/lang/invoke/MethodHandle" ∧ yX1_isCore.cls ≠ "java/lang/invoke/VarHandle" ∧ (parseMethodDescriptor yX1_isCore.desc).map (fun d => d.parameters.length) = some 1 := by decide +kernel
theorem hdX1_clauses : yX1_clauses.cls = "CoreFinderModel" ∧ yX1_clauses.cls ≠ "java/lang/invoke/MethodHandle" ∧ yX1_clauses.cls ≠ "java/lang/invoke/VarHandle" ∧ (parseMethodDescriptor yX1_clauses.desc).map (fun d => d.parameters.length) = some 0 := by decide +kernel
theorem hdX1_isRepair : yX1_isRepair.cls = "CoreFinderModel" ∧ yX1_isRepair.cls ≠ "java/lang/invoke/MethodHandle" ∧ yX1_isRepair.cls ≠ "java/lang/invoke/VarHandle" ∧ (parseMethodDescriptor yX1_isRepair.desc).map (fun d => d.parameters.length) = some 1 := by decide +kernel
theorem hdX1_ones : yX1_ones.cls = "CoreFinderModel" ∧ yX1_ones.cls ≠ "java/lang/invoke/MethodHandle" ∧ yX1_ones.cls ≠ "java/lang/invoke/VarHandle" ∧ (parseMethodDescriptor yX1_ones.desc).map (fun d => d.parameters.length) = some 1 := by decide +kernel
theorem hdX0_add : yX0_add.cls = "CoreFinder" ∧ yX0_add.cls ≠ "java/lang/invoke/MethodHandle" ∧ yX0_add.cls ≠ "java/lang/invoke/VarHandle" ∧ (parseMethodDescriptor yX0_add.desc).map (fun d => d.parameters.length) = some 2 := by decide +kernel
theorem hdX0_remove : yX0_remove.cls = "CoreFinder" ∧ yX0_remove.cls ≠ "java/lang/invoke/MethodHandle" ∧ yX0_remove.cls ≠ "java/lang/invoke/VarHandle" ∧ (parseMethodDescriptor yX0_remove.desc).map (fun d => d.parameters.length) = some 1 := by decide +kernel
theorem hdX0_clauses : yX0_clauses.cls = "CoreFinder" ∧ yX0_clauses.cls ≠ "java/lang/invoke/MethodHandle" ∧ yX0_clauses.cls ≠ "java/lang/invoke/VarHandle" ∧ (parseMethodDescriptor yX0_clauses.desc).map (fun d => d.parameters.length) = some 0 := by decide +kernel
theorem hdX0_consistent : yX0_consistent.cls = "CoreFinder" ∧ yX0_consistent.cls ≠ "java/lang/invoke/MethodHandle" ∧ yX0_consistent.cls ≠ "java/lang/invoke/VarHandle" ∧ (parseMethodDescriptor yX0_consistent.desc).map (fun d => d.parameters.length) = some 1 := by decide +kernel
theorem hdX0_witness : yX0_witness.cls = "CoreFinder" ∧ yX0_witness.cls ≠ "java/lang/invoke/MethodHandle" ∧ yX0_witness.cls ≠ "java/lang/invoke/VarHandle" ∧ (parseMethodDescriptor yX0_witness.desc).map (fun d => d.parameters.length) = some 1 := by decide +kernel
theorem hdX0_cores : yX0_cores.cls = "CoreFinder" ∧ yX0_cores.cls ≠ "java/lang/invoke/MethodHandle" ∧ yX0_cores.cls ≠ "java/lang/invoke/VarHandle" ∧ (parseMethodDescriptor yX0_cores.desc).map (fun d => d.parameters.length) = some 0 := by decide +kernel
theorem hdX0_core : yX0_core.cls = "CoreFinder" ∧ yX0_core.cls ≠ "java/lang/invoke/MethodHandle" ∧ yX0_core.cls ≠ "java/lang/invoke/VarHandle" ∧ (parseMethodDescriptor yX0_core.desc).map (fun d => d.parameters.length) = some 1 := by decide +kernel
theorem hdX0_repairs : yX0_repairs.cls = "CoreFinder" ∧ yX0_repairs.cls ≠ "java/lang/invoke/MethodHandle" ∧ yX0_repairs.cls ≠ "java/lang/invoke/VarHandle" ∧ (parseMethodDescriptor yX0_repairs.desc).map (fun d => d.parameters.length) = some 0 := by decide +kernel
theorem hdX0_repair : yX0_repair.cls = "CoreFinder" ∧ yX0_repair.cls ≠ "java/lang/invoke/MethodHandle" ∧ yX0_repair.cls ≠ "java/lang/invoke/VarHandle" ∧ (parseMethodDescriptor yX0_repair.desc).map (fun d => d.parameters.length) = some 1 := by decide +kernel
theorem hdX0_guilty : yX0_guilty.cls = "CoreFinder" ∧ yX0_guilty.cls ≠ "java/lang/invoke/MethodHandle" ∧ yX0_guilty.cls ≠ "java/lang/invoke/VarHandle" ∧ (parseMethodDescriptor yX0_guilty.desc).map (fun d => d.parameters.length) = some 0 := by decide +kernel
theorem hdX0_central : yX0_central.cls = "CoreFinder" ∧ yX0_central.cls ≠ "java/lang/invoke/MethodHandle" ∧ yX0_central.cls ≠ "java/lang/invoke/VarHandle" ∧ (parseMethodDescriptor yX0_central.desc).map (fun d => d.parameters.length) = some 0 := by decide +kernel
theorem hdX0_smallestCore : yX0_smallestCore.cls = "CoreFinder" ∧ yX0_smallestCore.cls ≠ "java/lang/invoke/MethodHandle" ∧ yX0_smallestCore.cls ≠ "java/lang/invoke/VarHandle" ∧ (parseMethodDescriptor yX0_smallestCore.desc).map (fun d => d.parameters.length) = some 0 := by decide +kernel
theorem hdX0_mostTogether : yX0_mostTogether.cls = "CoreFinder" ∧ yX0_mostTogether.cls ≠ "java/lang/invoke/MethodHandle" ∧ yX0_mostTogether.cls ≠ "java/lang/invoke/VarHandle" ∧ (parseMethodDescriptor yX0_mostTogether.desc).map (fun d => d.parameters.length) = some 0 := by decide +kernel
theorem hdX0_follows : yX0_follows.cls = "CoreFinder" ∧ yX0_follows.cls ≠ "java/lang/invoke/MethodHandle" ∧ yX0_follows.cls ≠ "java/lang/invoke/VarHandle" ∧ (parseMethodDescriptor yX0_follows.desc).map (fun d => d.parameters.length) = some 2 := by decide +kernel
theorem hdX1_add : yX1_add.cls = "CoreFinderModel" ∧ yX1_add.cls ≠ "java/lang/invoke/MethodHandle" ∧ yX1_add.cls ≠ "java/lang/invoke/VarHandle" ∧ (parseMethodDescriptor yX1_add.desc).map (fun d => d.parameters.length) = some 2 := by decide +kernel
theorem hdX1_remove : yX1_remove.cls = "CoreFinderModel" ∧ yX1_remove.cls ≠ "java/lang/invoke/MethodHandle" ∧ yX1_remove.cls ≠ "java/lang/invoke/VarHandle" ∧ (parseMethodDescriptor yX1_remove.desc).map (fun d => d.parameters.length) = some 1 := by decide +kernel
theorem hdX1_cores : yX1_cores.cls = "CoreFinderModel" ∧ yX1_cores.cls ≠ "java/lang/invoke/MethodHandle" ∧ yX1_cores.cls ≠ "java/lang/invoke/VarHandle" ∧ (parseMethodDescriptor yX1_cores.desc).map (fun d => d.parameters.length) = some 0 := by decide +kernel
theorem hdX1_core : yX1_core.cls = "CoreFinderModel" ∧ yX1_core.cls ≠ "java/lang/invoke/MethodHandle" ∧ yX1_core.cls ≠ "java/lang/invoke/VarHandle" ∧ (parseMethodDescriptor yX1_core.desc).map (fun d => d.parameters.length) = some 1 := by decide +kernel
theorem hdX1_repairs : yX1_repairs.cls = "CoreFinderModel" ∧ yX1_repairs.cls ≠ "java/lang/invoke/MethodHandle" ∧ yX1_repairs.cls ≠ "java/lang/invoke/VarHandle" ∧ (parseMethodDescriptor yX1_repairs.desc).map (fun d => d.parameters.length) = some 0 := by decide +kernel
theorem hdX1_repair : yX1_repair.cls = "CoreFinderModel" ∧ yX1_repair.cls ≠ "java/lang/invoke/MethodHandle" ∧ yX1_repair.cls ≠ "java/lang/invoke/VarHandle" ∧ (parseMethodDescriptor yX1_repair.desc).map (fun d => d.parameters.length) = some 1 := by decide +kernel
theorem hdX1_guilty : yX1_guilty.cls = "CoreFinderModel" ∧ yX1_guilty.cls ≠ "java/lang/invoke/MethodHandle" ∧ yX1_guilty.cls ≠ "java/lang/invoke/VarHandle" ∧ (parseMethodDescriptor yX1_guilty.desc).map (fun d => d.parameters.length) = some 0 := by decide +kernel
theorem hdX1_central : yX1_central.cls = "CoreFinderModel" ∧ yX1_central.cls ≠ "java/lang/invoke/MethodHandle" ∧ yX1_central.cls ≠ "java/lang/invoke/VarHandle" ∧ (parseMethodDescriptor yX1_central.desc).map (fun d => d.parameters.length) = some 0 := by decide +kernel
theorem hdX1_smallestCore : yX1_smallestCore.cls = "CoreFinderModel" ∧ yX1_smallestCore.cls ≠ "java/lang/invoke/MethodHandle" ∧ yX1_smallestCore.cls ≠ "java/lang/invoke/VarHandle" ∧ (parseMethodDescriptor yX1_smallestCore.desc).map (fun d => d.parameters.length) = some 0 := by decide +kernel
theorem hdX1_mostTogether : yX1_mostTogether.cls = "CoreFinderModel" ∧ yX1_mostTogether.cls ≠ "java/lang/invoke/MethodHandle" ∧ yX1_mostTogether.cls ≠ "java/lang/invoke/VarHandle" ∧ (parseMethodDescriptor yX1_mostTogether.desc).map (fun d => d.parameters.length) = some 0 := by decide +kernel
theorem hdX1_follows : yX1_follows.cls = "CoreFinderModel" ∧ yX1_follows.cls ≠ "java/lang/invoke/MethodHandle" ∧ yX1_follows.cls ≠ "java/lang/invoke/VarHandle" ∧ (parseMethodDescriptor yX1_follows.desc).map (fun d => d.parameters.length) = some 2 := by decide +kernel
end
section
/-! what the methods compute, in plain Lean: sets of clauses are Nats below 128, truth values Nats below 16; y, n: the clauses' letters -/
set_option maxRecDepth 100000
def hasX (P : Nat) (k : Int32) : Bool := decide (0 ≤ k) && decide (k < 7) && P.testBit k.toNatClampNeg
def setB (x : Int32) : Bool := decide (0 ≤ x) && decide (x ≤ 15)
def allN (f : Nat → Bool) : Nat → Bool
  | 0 => true
  | k + 1 => allN f k && f k
def anyN (f : Nat → Bool) : Nat → Bool
  | 0 => false
  | k + 1 => anyN f k || f k
/-- the least below -/
def fndN (f : Nat → Bool) : Nat → Option Nat
  | 0 => none
  | k + 1 => match fndN f k with
    | some i => some i
    | none => if f k then some k else none
/-- the greatest below -/
def undN (f : Nat → Bool) : Nat → Option Nat
  | 0 => none
  | k + 1 => if f k then some k else undN f k
def on7 (S : Nat) : Nat → Nat
  | 0 => 0
  | k + 1 => on7 S k + (S.testBit k).toNat
def bad (y n : Nat → Nat) (S L V k : Nat) : Bool := S.testBit k && ((nd (y k ||| n k) (nd 15 (2 ^ L - 1)) == 0) && ((y k &&& V == 0) && (nd (n k) V == 0)))
def brk (y n : Nat → Nat) (S L V : Nat) : Bool := anyN (bad y n S L V) 7
def hB (y n : Nat → Nat) (v k : Nat) : Bool := (y k &&& v != 0) || (nd (n k) v != 0)
def aB (y n : Nat → Nat) (S v : Nat) : Bool := allN (fun k => !S.testBit k || hB y n v k) 7
def sol (y n : Nat → Nat) (S I O v : Nat) : Bool := aB y n S v && ((nd I v == 0) && (O &&& v == 0))
def slv (y n : Nat → Nat) (S I O : Nat) : Option Nat := fndN (sol y n S I O) 16
def cB (y n : Nat → Nat) (S : Nat) : Bool := (fndN (aB y n S) 16).isSome
def undB (P : Nat) (f : Nat → Int64) (S : Nat) : Bool := (nd S P == 0) && !wbit f S
def coreB (y n : Nat → Nat) (P S : Nat) : Bool := ((nd S P == 0) && !cB y n S) && allN (fun k => !S.testBit k || cB y n (nd S (2 ^ k))) 7
def repB (y n : Nat → Nat) (P S : Nat) : Bool := ((nd S P == 0) && cB y n (nd P S)) && allN (fun t => (nd t S != 0) || !cB y n (nd P t)) S
def cntN (f : Nat → Bool) : Nat → Nat
  | 0 => 0
  | k + 1 => cntN f k + (f k).toNat
def nthB (f : Nat → Bool) (k s : Nat) : Bool := f s && (cntN f s == k)
def orN (f : Nat → Bool) : Nat → Nat
  | 0 => 0
  | k + 1 => if f k then orN f k ||| k else orN f k
def andN (P : Nat) (f : Nat → Bool) : Nat → Nat
  | 0 => P
  | k + 1 => if f k then andN P f k &&& k else andN P f k
def lessO (a : Nat) (o : Option Nat) : Bool := match o with
  | none => true
  | some b => decide (a < b)
def minN (f : Nat → Bool) : Nat → Option Nat
  | 0 => none
  | k + 1 => if f k && lessO (on7 k 7) (minN f k) then some (on7 k 7) else minN f k
/-- the most clauses, by the repairs -/
def mtX (P : Nat) (f : Nat → Bool) : Nat → Nat
  | 0 => 0
  | k + 1 => if f k && decide (mtX P f k < on7 (nd P k) 7) then on7 (nd P k) 7 else mtX P f k
/-- the most clauses, by the consistent sets -/
def mtM (f : Nat → Bool) : Nat → Nat
  | 0 => 0
  | k + 1 => if f k && decide (mtM f k < on7 k 7) then on7 k 7 else mtM f k
theorem allN_iff {f : Nat → Bool} {n : Nat} : allN f n = true ↔ ∀ k, k < n → f k = true := by
  induction n with
  | zero => simp [allN]
  | succ n ih =>
    simp only [allN, Bool.and_eq_true, ih]
    constructor
    · rintro ⟨h1, h2⟩ k hk
      rcases Nat.lt_succ_iff_lt_or_eq.mp hk with h | h
      · exact h1 k h
      · rw [h]; exact h2
    · intro h
      exact ⟨fun k hk => h k (Nat.lt_succ_of_lt hk), h n (Nat.lt_succ_self n)⟩
theorem anyN_iff {f : Nat → Bool} {n : Nat} : anyN f n = true ↔ ∃ k, k < n ∧ f k = true := by
  induction n with
  | zero => simp [anyN]
  | succ n ih =>
    simp only [anyN, Bool.or_eq_true, ih]
    constructor
    · rintro (⟨k, hk, h⟩ | h)
      · exact ⟨k, Nat.lt_succ_of_lt hk, h⟩
      · exact ⟨n, Nat.lt_succ_self n, h⟩
    · rintro ⟨k, hk, h⟩
      rcases Nat.lt_succ_iff_lt_or_eq.mp hk with h1 | h1
      · exact Or.inl ⟨k, h1, h⟩
      · right; rw [← h1]; exact h
theorem fndN_none {f : Nat → Bool} {n : Nat} : fndN f n = none ↔ ∀ k, k < n → f k = false := by
  induction n with
  | zero => simp [fndN]
  | succ n ih =>
    cases h : fndN f n with
    | some i =>
      simp only [fndN, h]
      constructor
      · intro z; cases z
      · intro z
        have := ih.mpr (fun k hk => z k (Nat.lt_succ_of_lt hk))
        rw [h] at this; cases this
    | none =>
      have h1 := ih.mp h
      cases hf : f n with
      | true =>
        simp only [fndN, h, hf, if_true]
        constructor
        · intro z; cases z
        · intro z
          have := z n (Nat.lt_succ_self n)
          rw [hf] at this; cases this
      | false =>
        simp only [fndN, h, hf]
        constructor
        · intro _ k hk
          rcases Nat.lt_succ_iff_lt_or_eq.mp hk with h2 | h2
          · exact h1 k h2
          · rw [h2]; exact hf
        · intro _; rfl
theorem fndN_some {f : Nat → Bool} {n i : Nat} : fndN f n = some i ↔ i < n ∧ f i = true ∧ ∀ k, k < i → f k = false := by
  induction n with
  | zero => simp [fndN]
  | succ n ih =>
    cases h : fndN f n with
    | some j =>
      simp only [fndN, h]
      rw [h] at ih
      constructor
      · intro z
        obtain ⟨a, b⟩ := ih.mp z
        exact ⟨Nat.lt_succ_of_lt a, b⟩
      · rintro ⟨a, b, c⟩
        by_cases hi : i < n
        · exact ih.mpr ⟨hi, b, c⟩
        · have hn : i = n := by omega
          exfalso
          have h0 : fndN f n = none := fndN_none.mpr (fun k hk => c k (by omega))
          rw [h] at h0; cases h0
    | none =>
      have h1 := fndN_none.mp h
      cases hf : f n with
      | true =>
        simp only [fndN, h, hf, if_true]
        constructor
        · intro z
          cases z
          exact ⟨Nat.lt_succ_self _, hf, h1⟩
        · rintro ⟨a, b, c⟩
          rcases Nat.lt_succ_iff_lt_or_eq.mp a with h2 | h2
          · rw [h1 i h2] at b; cases b
          · rw [h2]
      | false =>
        simp only [fndN, h, hf]
        constructor
        · intro z; cases z
        · rintro ⟨a, b, c⟩
          rcases Nat.lt_succ_iff_lt_or_eq.mp a with h2 | h2
          · rw [h1 i h2] at b; cases b
          · rw [h2, hf] at b; cases b
theorem undN_none {f : Nat → Bool} {n : Nat} : undN f n = none ↔ ∀ k, k < n → f k = false := by
  induction n with
  | zero => simp [undN]
  | succ n ih =>
    cases hf : f n with
    | true =>
      simp only [undN, hf, if_true]
      constructor
      · intro z; cases z
      · intro z
        have := z n (Nat.lt_succ_self n)
        rw [hf] at this; cases this
    | false =>
      simp only [undN, hf]
      constructor
      · intro z k hk
        rcases Nat.lt_succ_iff_lt_or_eq.mp hk with h2 | h2
        · exact ih.mp z k h2
        · rw [h2]; exact hf
      · intro z
        exact ih.mpr (fun k hk => z k (Nat.lt_succ_of_lt hk))
theorem undN_some {f : Nat → Bool} {n i : Nat} : undN f n = some i ↔ i < n ∧ f i = true ∧ ∀ k, i < k → k < n → f k = false := by
  induction n with
  | zero => simp [undN]
  | succ n ih =>
    cases hf : f n with
    | true =>
      simp only [undN, hf, if_true]
      constructor
      · intro z
        cases z
        exact ⟨Nat.lt_succ_self _, hf, fun k h1 h2 => by omega⟩
      · rintro ⟨a, b, c⟩
        by_cases h : i = n
        · rw [h]
        · have := c n (by omega) (Nat.lt_succ_self n)
          rw [hf] at this; cases this
    | false =>
      simp only [undN, hf]
      constructor
      · intro z
        obtain ⟨a, b, c⟩ := ih.mp z
        refine ⟨Nat.lt_succ_of_lt a, b, fun k h1 h2 => ?_⟩
        rcases Nat.lt_succ_iff_lt_or_eq.mp h2 with h3 | h3
        · exact c k h1 h3
        · rw [h3]; exact hf
      · rintro ⟨a, b, c⟩
        refine ih.mpr ⟨?_, b, fun k h1 h2 => c k h1 (Nat.lt_succ_of_lt h2)⟩
        rcases Nat.lt_succ_iff_lt_or_eq.mp a with h3 | h3
        · exact h3
        · rw [h3, hf] at b; cases b
theorem fndN_lt {f : Nat → Bool} {n i : Nat} (h : fndN f n = some i) : i < n := (fndN_some.mp h).1
theorem undN_lt {f : Nat → Bool} {n i : Nat} (h : undN f n = some i) : i < n := (undN_some.mp h).1
theorem fndN_congr {f g : Nat → Bool} {n : Nat} (h : ∀ k, k < n → f k = g k) : fndN f n = fndN g n := by
  induction n with
  | zero => rfl
  | succ n ih =>
    simp only [fndN, ih (fun k hk => h k (Nat.lt_succ_of_lt hk)), h n (Nat.lt_succ_self n)]
theorem sol00 (y n : Nat → Nat) (S v : Nat) : sol y n S 0 0 v = aB y n S v := by
  simp [sol, nd]
theorem slv00 (y n : Nat → Nat) (S : Nat) : slv y n S 0 0 = fndN (aB y n S) 16 := fndN_congr (fun k _ => sol00 y n S k)
theorem cB_iff {y n : Nat → Nat} {S : Nat} : cB y n S = true ↔ ∃ v, v < 16 ∧ aB y n S v = true := by
  unfold cB
  cases h : fndN (aB y n S) 16 with
  | none =>
    have h1 := fndN_none.mp h
    constructor
    · intro z; cases z
    · rintro ⟨v, hv, z⟩
      rw [h1 v hv] at z; cases z
  | some i =>
    obtain ⟨a, b, -⟩ := fndN_some.mp h
    exact ⟨fun _ => ⟨i, a, b⟩, fun _ => rfl⟩
theorem aB_iff {y n : Nat → Nat} {S v : Nat} : aB y n S v = true ↔ ∀ k, k < 7 → S.testBit k = true → hB y n v k = true := by
  unfold aB
  rw [allN_iff]
  constructor
  · intro h k hk hs
    have := h k hk
    rw [hs] at this
    simpa using this
  · intro h k hk
    cases hs : S.testBit k with
    | false => rfl
    | true => simpa using h k hk hs
theorem on7_le (S : Nat) (k : Nat) : on7 S k ≤ k := by
  induction k with
  | zero => simp [on7]
  | succ k ih =>
    simp only [on7]
    have : (S.testBit k).toNat ≤ 1 := by cases S.testBit k <;> decide
    omega
theorem cntN_le (f : Nat → Bool) (k : Nat) : cntN f k ≤ k := by
  induction k with
  | zero => simp [cntN]
  | succ k ih =>
    simp only [cntN]
    have : (f k).toNat ≤ 1 := by cases f k <;> decide
    omega
def wX (ad : Nat → Nat) (cA : Nat → ClassId) (P : Nat) (y n : Nat → Nat) (kn : Int32) (fd fc fr : Nat → Int64) : va_W :=
  [(ad 0, .inr (0, [.int (nI P), .ref (ad 1), .ref (ad 2), .int kn, .ref (ad 3), .ref (ad 4), .ref (ad 5)])), (ad 1, .inl (cA 1, 8, .inl (fun j => nI (y j)))), (ad 2, .inl (cA 2, 8, .inl (fun j => nI (n j)))), (ad 3, .inl (cA 3, 2, .inr (.inl fd))), (ad 4, .inl (cA 4, 2, .inr (.inl fc))), (ad 5, .inl (cA 5, 2, .inr (.inl fr)))]
def tX (cA : Nat → ClassId) : List (ClassId × FieldType) := [(cA 1, .byte), (cA 2, .byte), (cA 3, .long), (cA 4, .long), (cA 5, .long)]
def wM (ad : Nat → Nat) (cA : Nat → ClassId) (P : Nat) (y n : Nat → Nat) (f : Nat → Int32) : va_W :=
  [(ad 0, .inr (1, [.ref (ad 1), .ref (ad 2), .ref (ad 3), .ref (ad 4)])), (ad 1, .inl (cA 1, 7, .inl (fun j => bI (P.testBit j)))), (ad 2, .inl (cA 2, 7, .inl (fun j => nI (y j)))), (ad 3, .inl (cA 3, 7, .inl (fun j => nI (n j)))), (ad 4, .inl (cA 4, 128, .inl f))]
def tM (cA : Nat → ClassId) : List (ClassId × FieldType) := [(cA 1, .boolean), (cA 2, .int), (cA 3, .int), (cA 4, .boolean)]
end
section
/-! plain lemmas for has, isSet, broken, solve -/
set_option maxRecDepth 100000
theorem has_ix {x : Int32} (h1 : ¬ x < 0) (h2 : ¬ nI 7 ≤ x) : ∃ j : Nat, j < 7 ∧ x = nI j := by
  rcases pk_ix x (n := 7) (by decide) with h | h | h
  · exact absurd h h1
  · exact absurd h h2
  · exact h
theorem hasX_neg {P : Nat} {x : Int32} (h : x < 0) : hasX P x = false := by
  have : ¬ (0 ≤ x) := Int32.not_le.mpr h
  simp [hasX, this]
theorem hasX_ge {P : Nat} {x : Int32} (h : nI 7 ≤ x) : hasX P x = false := by
  have : ¬ (x < 7) := Int32.not_lt.mpr h
  simp [hasX, this]
theorem hasX_nI {P j : Nat} (h : j < 7) : hasX P (nI j) = P.testBit j := by
  have h1 : (0 : Int32) ≤ nI j := nI_pos' (by omega)
  have h2 : nI j < 7 := nI_lt (b := 7) h (by decide)
  simp [hasX, h1, h2, nI_clamp (show j < 2 ^ 31 by omega)]
theorem setB_neg {x : Int32} (h : x < 0) : setB x = false := by
  have : ¬ (0 ≤ x) := Int32.not_le.mpr h
  simp [setB, this]
theorem setB_gt {x : Int32} (h : nI 15 < x) : setB x = false := by
  have : ¬ (x ≤ 15) := Int32.not_le.mpr h
  simp [setB, this]
theorem setB_in {x : Int32} (h1 : ¬ x < 0) (h2 : ¬ nI 15 < x) : setB x = true := by
  have a : 0 ≤ x := Int32.not_lt.mp h1
  have b : x ≤ 15 := Int32.not_lt.mp h2
  simp [setB, a, b]
theorem setB_ix {x : Int32} (h : setB x = true) : ∃ j : Nat, j < 16 ∧ x = nI j := by
  simp only [setB, Bool.and_eq_true, decide_eq_true_eq] at h
  obtain ⟨j, hj, e⟩ := nI_of2 (n := 15) (M := 15) (by decide) (Int32.not_lt.mpr h.1) h.2
  exact ⟨j, by omega, e⟩
/-- the place of a node of the search: letters from Q on have values V -/
def dfs (Q V : Nat) : Nat := (4 - Q) + ((V.testBit 0).toNat * 1 + (V.testBit 1).toNat * 3 + (V.testBit 2).toNat * 7 + (V.testBit 3).toNat * 15)
theorem dfs_le0 : ∀ Q, Q < 5 → ∀ V, V < 16 → dfs Q V ≤ 30 := by decide
theorem dfs_le {Q V : Nat} (hQ : Q ≤ 4) (hV : V < 16) : dfs Q V ≤ 30 := dfs_le0 Q (by omega) V hV
theorem up_mod0 : ∀ Q, Q < 4 → ∀ V, V < 16 → V % 2 ^ Q = 0 → V.testBit Q = true → nd V (2 ^ Q) % 2 ^ (Q + 1) = 0 := by decide
theorem up_mod {Q V : Nat} (hV : V < 16) (hQ : Q < 4) (hm : V % 2 ^ Q = 0) (hb : V.testBit Q = true) : nd V (2 ^ Q) % 2 ^ (Q + 1) = 0 := up_mod0 Q hQ V hV hm hb
theorem up_sum0 : ∀ Q, Q < 4 → ∀ V, V < 16 → V % 2 ^ Q = 0 → V.testBit Q = true → nd V (2 ^ Q) + 2 ^ (Q + 1) = V + 2 ^ Q := by decide
theorem up_sum {Q V : Nat} (hV : V < 16) (hQ : Q < 4) (hm : V % 2 ^ Q = 0) (hb : V.testBit Q = true) : nd V (2 ^ Q) + 2 ^ (Q + 1) = V + 2 ^ Q := up_sum0 Q hQ V hV hm hb
theorem sn0 : ∀ Q, Q < 5 → ∀ i, i < 4 → (nd 15 (2 ^ Q - 1)).testBit i = decide (Q ≤ i) := by decide
/-- the numbers from V on, 2 ^ Q of them, have V's letters from Q on -/
theorem agree0b : allN (fun Q => allN (fun V => allN (fun v => allN (fun i => decide ((V % 2 ^ Q = 0 ∧ V ≤ v ∧ v < V + 2 ^ Q ∧ Q ≤ i) → v.testBit i = V.testBit i)) 4) 16) 16) 5 = true := by decide +kernel
theorem agree0 (Q : Nat) (hQ : Q < 5) (V : Nat) (hV : V < 16) (v : Nat) (hv : v < 16) (i : Nat) (hi : i < 4) (h : V % 2 ^ Q = 0 ∧ V ≤ v ∧ v < V + 2 ^ Q ∧ Q ≤ i) : v.testBit i = V.testBit i := of_decide_eq_true (allN_iff.mp (allN_iff.mp (allN_iff.mp (allN_iff.mp agree0b Q hQ) V hV) v hv) i hi) h
theorem low0 : ∀ Q, Q < 5 → ∀ V, V < 16 → V % 2 ^ Q = 0 → ∀ i, i < Q → V.testBit i = false := by decide
theorem top0 : ∀ Q, Q < 5 → ∀ V, V < 16 → V % 2 ^ Q = 0 → V + 2 ^ Q ≤ 16 := by decide
theorem hi4 {a i : Nat} (h : a < 16) (hi : 4 ≤ i) : a.testBit i = false := Nat.testBit_lt_two_pow (Nat.lt_of_lt_of_le h (Nat.pow_le_pow_right (by decide) hi : 2 ^ 4 ≤ 2 ^ i))
theorem sol_false {y n : Nat → Nat} {S J O v : Nat} (h : ¬ (aB y n S v = true ∧ nd J v = 0 ∧ O &&& v = 0)) : sol y n S J O v = false := by
  apply Bool.eq_false_iff.mpr
  intro z
  apply h
  simpa [sol] using z
theorem agree {Q V v : Nat} (hQ : Q ≤ 4) (hV : V < 16) (hm : V % 2 ^ Q = 0) (h1 : V ≤ v) (h2 : v < V + 2 ^ Q) : v < 16 ∧ ∀ i, Q ≤ i → v.testBit i = V.testBit i := by
  have ht := top0 Q (by omega) V hV hm
  have hv : v < 16 := by omega
  refine ⟨hv, fun i hi => ?_⟩
  rcases Nat.lt_or_ge i 4 with h | h
  · exact agree0 Q (by omega) V hV v hv i h ⟨hm, h1, h2, hi⟩
  · rw [hi4 hv h, hi4 hV h]
theorem fail_of {y n : Nat → Nat} {S J O Q V : Nat} (hno : ∀ v, v < V → sol y n S J O v = false) (h : ∀ v, V ≤ v → v < V + 2 ^ Q → sol y n S J O v = false) : ∀ v, v < V + 2 ^ Q → sol y n S J O v = false := fun v hv => by
  rcases Nat.lt_or_ge v V with h1 | h1
  · exact hno v h1
  · exact h v h1 hv
theorem and_agree {a Q V v : Nat} (ha : ∀ i, i < Q → a.testBit i = false) (hv : ∀ i, Q ≤ i → v.testBit i = V.testBit i) : a &&& v = a &&& V := by
  apply Nat.eq_of_testBit_eq
  intro i
  rw [Nat.testBit_and, Nat.testBit_and]
  rcases Nat.lt_or_ge i Q with h | h
  · rw [ha i h]; rfl
  · rw [hv i h]
theorem nd_agree {a Q V v : Nat} (ha : ∀ i, i < Q → a.testBit i = false) (hv : ∀ i, Q ≤ i → v.testBit i = V.testBit i) : nd a v = nd a V := by
  unfold nd
  rw [and_agree ha hv]
theorem settled {a Q : Nat} (hQ : Q ≤ 4) (h : nd a (nd 15 (2 ^ Q - 1)) = 0) : ∀ i, i < Q → a.testBit i = false := by
  intro i hi
  have h1 := nd_zero.mp h i
  cases ht : a.testBit i with
  | false => rfl
  | true =>
    have := h1 ht
    rw [sn0 Q (by omega) i (by omega)] at this
    simp at this
    omega
theorem fail_b {y n : Nat → Nat} {S J O Q V : Nat} (hQ : Q ≤ 4) (hV : V < 16) (hm : V % 2 ^ Q = 0) (hno : ∀ v, v < V → sol y n S J O v = false) (h : brk y n S Q V = true) : ∀ v, v < V + 2 ^ Q → sol y n S J O v = false := by
  refine fail_of hno (fun v h1 h2 => sol_false ?_)
  rintro ⟨ha, -, -⟩
  obtain ⟨hv, hag⟩ := agree hQ hV hm h1 h2
  obtain ⟨k, hk, hb⟩ := anyN_iff.mp h
  simp only [bad, Bool.and_eq_true, beq_iff_eq] at hb
  obtain ⟨b1, b2, b3, b4⟩ := hb
  have hs := settled hQ b2
  have hs1 : ∀ i, i < Q → (y k).testBit i = false := fun i hi => by
    have := hs i hi
    rw [Nat.testBit_or] at this
    exact (Bool.or_eq_false_iff.mp this).1
  have hs2 : ∀ i, i < Q → (n k).testBit i = false := fun i hi => by
    have := hs i hi
    rw [Nat.testBit_or] at this
    exact (Bool.or_eq_false_iff.mp this).2
  have hh := aB_iff.mp ha k hk b1
  simp only [hB, and_agree hs1 hag, nd_agree hs2 hag, b3, b4] at hh
  simp at hh
theorem fail_i {y n : Nat → Nat} {S J O Q V : Nat} (hQ : Q ≤ 4) (hV : V < 16) (hm : V % 2 ^ Q = 0) (hno : ∀ v, v < V → sol y n S J O v = false) (h : ¬ nd (J &&& nd 15 (2 ^ Q - 1)) V = 0) : ∀ v, v < V + 2 ^ Q → sol y n S J O v = false := by
  refine fail_of hno (fun v h1 h2 => sol_false ?_)
  rintro ⟨-, hj, -⟩
  obtain ⟨hv, hag⟩ := agree hQ hV hm h1 h2
  apply h
  apply nd_zero.mpr
  intro i hi
  rw [Nat.testBit_and, Bool.and_eq_true] at hi
  have hi4' : i < 4 := by
    apply Nat.lt_of_not_le
    intro z
    rw [hi4 (show nd 15 (2 ^ Q - 1) < 16 from nd_lt (by decide)) z] at hi
    cases hi.2
  have hq : Q ≤ i := by
    have := hi.2
    rw [sn0 Q (by omega) i hi4'] at this
    simpa using this
  rw [← hag i hq]
  exact nd_zero.mp hj i hi.1
theorem fail_o {y n : Nat → Nat} {S J O Q V : Nat} (hQ : Q ≤ 4) (hV : V < 16) (hm : V % 2 ^ Q = 0) (hno : ∀ v, v < V → sol y n S J O v = false) (h : ¬ O &&& V = 0) : ∀ v, v < V + 2 ^ Q → sol y n S J O v = false := by
  refine fail_of hno (fun v h1 h2 => sol_false ?_)
  rintro ⟨-, -, ho⟩
  obtain ⟨hv, hag⟩ := agree hQ hV hm h1 h2
  apply h
  apply Nat.eq_of_testBit_eq
  intro i
  have := congrArg (fun z => z.testBit i) ho
  simp only [Nat.testBit_and, Nat.zero_testBit] at this ⊢
  rcases Nat.lt_or_ge i Q with hq | hq
  · rw [low0 Q (by omega) V hV hm i hq, Bool.and_false]
  · rw [← hag i hq]; exact this
/-- nothing fails and all letters have values: a solution, the least -/
theorem solve_hit {y n : Nat → Nat} {S J O V : Nat} (hV : V < 16) (hy : ∀ k, y k < 16) (hn : ∀ k, n k < 16) (hJ : J < 16) (hno : ∀ v, v < V → sol y n S J O v = false) (h1 : brk y n S 0 V = false) (h2 : nd (J &&& nd 15 (2 ^ 0 - 1)) V = 0) (h3 : O &&& V = 0) : slv y n S J O = some V := by
  refine fndN_some.mpr ⟨hV, ?_, hno⟩
  have e15 : ∀ a, a < 16 → a &&& nd 15 (2 ^ 0 - 1) = a := by decide
  have e0 : ∀ a, a < 16 → nd a (nd 15 (2 ^ 0 - 1)) = 0 := by decide
  rw [e15 J hJ] at h2
  simp only [sol, Bool.and_eq_true, beq_iff_eq]
  refine ⟨aB_iff.mpr (fun k hk hs => ?_), h2, h3⟩
  cases hh : hB y n V k with
  | true => rfl
  | false =>
    exfalso
    have : brk y n S 0 V = true := by
      refine anyN_iff.mpr ⟨k, hk, ?_⟩
      simp only [hB, Bool.or_eq_false_iff, bne_eq_false_iff_eq] at hh
      simp only [bad, hs, e0 _ (Nat.or_lt_two_pow (n := 4) (hy k) (hn k)), hh.1, hh.2]
      rfl
    rw [h1] at this
    cases this
theorem solve_miss {y n : Nat → Nat} {S J O V Q V2 : Nat} (hf : ∀ v, v < V + 2 ^ Q → sol y n S J O v = false) (hs : V2 + 2 ^ 4 = V + 2 ^ Q) : slv y n S J O = none :=
  fndN_none.mpr (fun k hk => hf k (by omega))
theorem dfs_down0 : ∀ Q, Q < 5 → ∀ V, V < 16 → Q ≠ 0 → V % 2 ^ Q = 0 → V % 2 ^ (Q - 1) = 0 ∧ dfs Q V + 1 ≤ dfs (Q - 1) V := by decide
theorem dfs_up0b : allN (fun Q => allN (fun V => allN (fun Q2 => allN (fun V2 => decide ((V % 2 ^ Q = 0 ∧ V2 % 2 ^ Q2 = 0 ∧ V2.testBit Q2 = false ∧ V2 + 2 ^ Q2 = V + 2 ^ Q) → V2 ||| 2 ^ Q2 = V + 2 ^ Q ∧ V2 ||| 2 ^ Q2 < 16 ∧ (V2 ||| 2 ^ Q2) % 2 ^ Q2 = 0 ∧ dfs Q V + 1 ≤ dfs Q2 (V2 ||| 2 ^ Q2))) 16) 4) 16) 5 = true := by decide +kernel
theorem dfs_up {Q V Q2 V2 : Nat} (hQ : Q ≤ 4) (hV : V < 16) (hQ2 : Q2 < 4) (hV2 : V2 < 16) (h1 : V % 2 ^ Q = 0) (h2 : V2 % 2 ^ Q2 = 0) (h3 : V2.testBit Q2 = false) (h4 : V2 + 2 ^ Q2 = V + 2 ^ Q) : V2 ||| 2 ^ Q2 = V + 2 ^ Q ∧ V2 ||| 2 ^ Q2 < 16 ∧ (V2 ||| 2 ^ Q2) % 2 ^ Q2 = 0 ∧ dfs Q V + 1 ≤ dfs Q2 (V2 ||| 2 ^ Q2) := of_decide_eq_true (allN_iff.mp (allN_iff.mp (allN_iff.mp (allN_iff.mp dfs_up0b Q (by omega)) V hV) Q2 hQ2) V2 hV2) ⟨h1, h2, h3, h4⟩
end
section
set_option maxRecDepth 100000
set_option maxHeartbeats 4000000 in
set_option maxRecDepth 100000 in
/-- has(k) -/
theorem mX0_has (l : Launch) (dC : Nat → ClassId) (dI : Nat → Nat → Nat) (ad : Nat → Nat) (cA : Nat → ClassId) (P : Nat) (y n : Nat → Nat) (kn : Int32) (fd fc fr : Nat → Int64) (x : Int32)  : PI l yX0_has cX0_has 2 (some .boolean) ({ frames := 0, cells := 0, slots := 0, locals := 0 } : Room) [.ref (ad 0), .int x] (dC, dI) (wX ad cA P y n kn fd fc fr) (tX cA) (bI (hasX P x)) := by
  refine PI.of (by decide) (Nat.le_of_ble_eq_true rfl) ?_
  intro p e s m below meth c hx hb hr hlocks hml hown hts hK H locs hP hS ls hl
  have hown : s.vm.findClass "CoreFinder" = some m.cls := hown
  have hl : lv_has ls 2 [(0, .ref (ad 0)), (1, .int x)] := hl
  refine lv_iload_n hx hb dX0_has_0 rfl (lv_at hl 1 rfl) ?_
  refine lv_if_lt (tgt := 25) hx hb dX0_has_1 (by decide) (fun c_1 => ?_) (fun c_1 => ?_)
  · skip
    refine lv_iconst (v := (nI 0)) hx hb dX0_has_25 (by decide) ?_
    exact pi_retz hx hb hr hlocks hS (Or.inl rfl) (by rw [hasX_neg c_1]; rfl) dX0_has_26
  · skip
    refine lv_iload_n hx hb dX0_has_4 rfl (lv_at hl 1 rfl) ?_
    refine lv_bipush (v := (nI 7)) hx hb dX0_has_5 (by decide) ?_
    refine lv_icmp_ge (tgt := 25) hx hb dX0_has_7 (by decide) (fun c_7 => ?_) (fun c_7 => ?_)
    · skip
      refine lv_iconst (v := (nI 0)) hx hb dX0_has_25 (by decide) ?_
      exact pi_retz hx hb hr hlocks hS (Or.inl rfl) (by rw [hasX_ge c_7]; rfl) dX0_has_26
    · skip
      obtain ⟨j, hj, rfl⟩ := has_ix c_1 c_7
      refine lv_aload_n hx hb dX0_has_10 rfl (lv_at hl 0 rfl) ?_
      refine va_get (D := (dC, dI)) (ci := 0) (v := .int (nI P)) (C := RX0) (T := TX0) (N := 7) hx hb hts in_X0 hown hK hP 0 rfl rfl 0 (by decide) (hts _ q29) (fun _ h9 => h9) rfl dX0_has_11 ?_
      refine lv_iload_n hx hb dX0_has_14 rfl (lv_at hl 1 rfl) ?_
      refine lv_ishr hx hb dX0_has_15 ?_
      refine lv_iconst (v := (nI 1)) hx hb dX0_has_16 (by decide) ?_
      refine nv_bit hx hb (by first | omega | exact nd_lt (by omega) | exact Nat.lt_of_le_of_lt Nat.and_le_left (by omega) | exact Nat.lt_of_le_of_lt Nat.and_le_right (by omega)) dX0_has_17 ?_
      refine nv_eqB hx hb 25 dX0_has_18 (by decide) (fun c_18 => ?_) (fun c_18 => ?_)
      · skip
        refine lv_iconst (v := (nI 0)) hx hb dX0_has_25 (by decide) ?_
        exact pi_retz hx hb hr hlocks hS (Or.inl rfl) (by rw [hasX_nI hj, c_18]; rfl) dX0_has_26
      · skip
        refine lv_iconst (v := (nI 1)) hx hb dX0_has_21 (by decide) ?_
        refine lv_goto (tgt := 26) hx hb dX0_has_22 (by decide) ?_
        exact pi_retz hx hb hr hlocks hS (Or.inr rfl) (by rw [hasX_nI hj, c_18]; rfl) dX0_has_26
set_option maxHeartbeats 4000000 in
set_option maxRecDepth 100000 in
/-- isSet(m) -/
theorem mX0_isSet (l : Launch) (dC : Nat → ClassId) (dI : Nat → Nat → Nat) (x : Int32)  : PI l yX0_isSet cX0_isSet 1 (some .boolean) ({ frames := 0, cells := 0, slots := 0, locals := 0 } : Room) [.int x] (dC, dI) [] [] (bI (setB x)) := by
  refine PI.of (by decide) (Nat.le_of_ble_eq_true rfl) ?_
  intro p e s m below meth c hx hb hr hlocks hml hown hts hK H locs hP hS ls hl
  have hown : s.vm.findClass "CoreFinder" = some m.cls := hown
  have hl : lv_has ls 1 [(0, .int x)] := hl
  refine lv_iload_n hx hb dX0_isSet_0 rfl (lv_at hl 0 rfl) ?_
  refine lv_if_lt (tgt := 14) hx hb dX0_isSet_1 (by decide) (fun c_1 => ?_) (fun c_1 => ?_)
  · skip
    refine lv_iconst (v := (nI 0)) hx hb dX0_isSet_14 (by decide) ?_
    exact pi_retz hx hb hr hlocks hS (Or.inl rfl) (by rw [setB_neg c_1]; rfl) dX0_isSet_15
  · skip
    refine lv_iload_n hx hb dX0_isSet_4 rfl (lv_at hl 0 rfl) ?_
    refine lv_bipush (v := (nI 15)) hx hb dX0_isSet_5 (by decide) ?_
    refine lv_icmp_gt (tgt := 14) hx hb dX0_isSet_7 (by decide) (fun c_7 => ?_) (fun c_7 => ?_)
    · skip
      refine lv_iconst (v := (nI 0)) hx hb dX0_isSet_14 (by decide) ?_
      exact pi_retz hx hb hr hlocks hS (Or.inl rfl) (by rw [setB_gt c_7]; rfl) dX0_isSet_15
    · skip
      refine lv_iconst (v := (nI 1)) hx hb dX0_isSet_10 (by decide) ?_
      refine lv_goto (tgt := 15) hx hb dX0_isSet_11 (by decide) ?_
      exact pi_retz hx hb hr hlocks hS (Or.inr rfl) (by rw [setB_in c_1 c_7]; rfl) dX0_isSet_15
set_option maxHeartbeats 4000000 in
set_option maxRecDepth 100000 in
/-- ones(set) -/
theorem mX0_ones (l : Launch) (dC : Nat → ClassId) (dI : Nat → Nat → Nat) (S : Nat)  : PI l yX0_ones cX0_ones 3 (some .int) ({ frames := 0, cells := 0, slots := 0, locals := 0 } : Room) [.int (nI S)] (dC, dI) [] [] (nI (on7 S 7)) := by
  refine PI.of (by decide) (Nat.le_of_ble_eq_true rfl) ?_
  intro p e s m below meth c hx hb hr hlocks hml hown hts hK H locs hP hS ls hl
  have hown : s.vm.findClass "CoreFinder" = some m.cls := hown
  have hl : lv_has ls 3 [(0, .int (nI S))] := hl
  refine lv_iconst (v := (nI 0)) hx hb dX0_ones_0 (by decide) ?_
  refine lv_istore_n (lv' := [(1, .int (nI 0)), (0, .int (nI S))]) hx hb dX0_ones_1 rfl hl (by decide) rfl (fun ls hl => ?_)
  refine lv_iconst (v := (nI 0)) hx hb dX0_ones_2 (by decide) ?_
  refine lv_istore_n (lv' := [(2, .int (nI 0)), (1, .int (nI 0)), (0, .int (nI S))]) hx hb dX0_ones_3 rfl hl (by decide) rfl (fun ls hl => ?_)
  have loop_4 : ∀ (n_ : Nat) (k : Nat), (k ≤ 7) → 7 - k < n_ → ∀ (H : Heap) (locs : List Loc), va_P (dC, dI) vwCl [] H → va_S (fun _ => False) s.heap H locs → ∀ (ls : Array Slot), lv_has ls 3 [(0, .int (nI S)), (1, .int (nI (on7 S k))), (2, .int (nI k))] → W p l e ({ frames := 0, cells := 0, slots := 0, locals := 0 } : Room) s m ([.int (nI S)] : List Value).toArray below meth c H locs 0 0 (QP below (nI (on7 S 7)) ([.int (nI S)] : List Value).toArray s) (F0 m 4 ls []) := by
    intro n_
    induction n_ with
    | zero =>
      intro k hk hlt
      exact absurd hlt (Nat.not_lt_zero _)
    | succ n_ ih_4 =>
      intro k hk hlt_4 H locs hP hS ls hl
      refine lv_iload_n hx hb dX0_ones_4 rfl (lv_at hl 2 rfl) ?_
      refine lv_bipush (v := (nI 7)) hx hb dX0_ones_5 (by decide) ?_
      refine nv_cgeN hx hb 24 (by first | omega | exact nd_lt (by omega) | exact Nat.lt_of_le_of_lt Nat.and_le_left (by omega) | exact Nat.lt_of_le_of_lt Nat.and_le_right (by omega)) (by first | omega | exact nd_lt (by omega) | exact Nat.lt_of_le_of_lt Nat.and_le_left (by omega) | exact Nat.lt_of_le_of_lt Nat.and_le_right (by omega)) dX0_ones_7 (by decide) (fun c_7 => ?_) (fun c_7 => ?_)
      · skip
        refine lv_iload_n hx hb dX0_ones_24 rfl (lv_at hl 1 rfl) ?_
        exact pi_ret hx hb hr hlocks hS (by rw [show k = 7 by omega]) dX0_ones_25
      · skip
        refine lv_iload_n hx hb dX0_ones_10 rfl (lv_at hl 1 rfl) ?_
        refine lv_iload_n hx hb dX0_ones_11 rfl (lv_at hl 0 rfl) ?_
        refine lv_iload_n hx hb dX0_ones_12 rfl (lv_at hl 2 rfl) ?_
        refine lv_ishr hx hb dX0_ones_13 ?_
        refine lv_iconst (v := (nI 1)) hx hb dX0_ones_14 (by decide) ?_
        refine nv_bit hx hb (by first | omega | exact nd_lt (by omega) | exact Nat.lt_of_le_of_lt Nat.and_le_left (by omega) | exact Nat.lt_of_le_of_lt Nat.and_le_right (by omega)) dX0_ones_15 ?_
        refine nv_addB hx hb dX0_ones_16 ?_
        refine lv_istore_n (lv' := [(1, .int (nI ((on7 S k) + (S.testBit k).toNat))), (0, .int (nI S)), (2, .int (nI k))]) hx hb dX0_ones_17 rfl hl (by decide) rfl (fun ls hl => ?_)
        refine lv_iinc (v := (nI (k + 1))) (lv' := [(2, .int (nI (k + 1))), (1, .int (nI ((on7 S k) + (S.testBit k).toNat))), (0, .int (nI S))]) hx hb dX0_ones_18 hl (k := 2) rfl (nI_1 k) (by decide) rfl (fun ls hl => ?_)
        refine lv_goto (tgt := 4) hx hb dX0_ones_21 (by decide) ?_
        exact ih_4 (k + 1) (by omega) (by omega) _ _ hP hS ls (lv_sub hl [2, 1, 0] rfl)
  exact loop_4 (7 - 0 + 1) 0 (by omega) (Nat.lt_succ_self _) _ _ hP hS ls (lv_sub hl [2, 1, 0] rfl)
set_option maxHeartbeats 4000000 in
set_option maxRecDepth 100000 in
/-- broken(set, letter, values) -/
theorem mX0_broken (l : Launch) (dC : Nat → ClassId) (dI : Nat → Nat → Nat) (ad : Nat → Nat) (cA : Nat → ClassId) (P : Nat) (y n : Nat → Nat) (kn : Int32) (fd fc fr : Nat → Int64) (S Q V : Nat) (hy : ∀ k, y k < 16) (hn : ∀ k, n k < 16) (hQ : Q ≤ 4) (hV : V < 16) : PI l yX0_broken cX0_broken 8 (some .boolean) ({ frames := 0, cells := 0, slots := 0, locals := 0 } : Room) [.ref (ad 0), .int (nI S), .int (nI Q), .int (nI V)] (dC, dI) (wX ad cA P y n kn fd fc fr) (tX cA) (bI (brk y n S Q V)) := by
  refine PI.of (by decide) (Nat.le_of_ble_eq_true rfl) ?_
  intro p e s m below meth c hx hb hr hlocks hml hown hts hK H locs hP hS ls hl
  have hown : s.vm.findClass "CoreFinder" = some m.cls := hown
  have hl : lv_has ls 8 [(0, .ref (ad 0)), (1, .int (nI S)), (2, .int (nI Q)), (3, .int (nI V))] := hl
  refine lv_bipush (v := (nI 15)) hx hb dX0_broken_0 (by decide) ?_
  refine lv_iconst (v := (nI 1)) hx hb dX0_broken_2 (by decide) ?_
  refine lv_iload_n hx hb dX0_broken_3 rfl (lv_at hl 2 rfl) ?_
  refine nv_shl1 hx hb (by first | omega | exact nd_lt (by omega) | exact Nat.lt_of_le_of_lt Nat.and_le_left (by omega) | exact Nat.lt_of_le_of_lt Nat.and_le_right (by omega)) dX0_broken_4 ?_
  refine lv_iconst (v := (nI 1)) hx hb dX0_broken_5 (by decide) ?_
  refine nv_sub hx hb (Nat.one_le_two_pow) dX0_broken_6 ?_
  refine lv_iconst (v := (-1)) hx hb dX0_broken_7 (by decide) ?_
  refine lv_ixor hx hb dX0_broken_8 ?_
  refine nv_andn hx hb dX0_broken_9 ?_
  refine lv_istore (lv' := [(4, .int (nI (nd 15 ((2 ^ Q) - 1)))), (0, .ref (ad 0)), (1, .int (nI S)), (2, .int (nI Q)), (3, .int (nI V))]) hx hb dX0_broken_10 hl (by decide) rfl (fun ls hl => ?_)
  refine lv_iconst (v := (nI 0)) hx hb dX0_broken_12 (by decide) ?_
  refine lv_istore (lv' := [(5, .int (nI 0)), (4, .int (nI (nd 15 ((2 ^ Q) - 1)))), (0, .ref (ad 0)), (1, .int (nI S)), (2, .int (nI Q)), (3, .int (nI V))]) hx hb dX0_broken_13 hl (by decide) rfl (fun ls hl => ?_)
  have loop_15 : ∀ (n_ : Nat) (k : Nat), (k ≤ 7) → (anyN (bad y n S Q V) k = false) → 7 - k < n_ → ∀ (H : Heap) (locs : List Loc), va_P (dC, dI) vwCl (wX ad cA P y n kn fd fc fr) H → va_S (fun _ => False) s.heap H locs → ∀ (ls : Array Slot), lv_has ls 8 [(0, .ref (ad 0)), (1, .int (nI S)), (2, .int (nI Q)), (3, .int (nI V)), (4, .int (nI (nd 15 (2 ^ Q - 1)))), (5, .int (nI k))] → W p l e ({ frames := 0, cells := 0, slots := 0, locals := 0 } : Room) s m ([.ref (ad 0), .int (nI S), .int (nI Q), .int (nI V)] : List Value).toArray below meth c H locs 0 0 (QP below (bI (brk y n S Q V)) ([.ref (ad 0), .int (nI S), .int (nI Q), .int (nI V)] : List Value).toArray s) (F0 m 15 ls []) := by
    intro n_
    induction n_ with
    | zero =>
      intro k hk hno hlt
      exact absurd hlt (Nat.not_lt_zero _)
    | succ n_ ih_15 =>
      intro k hk hno hlt_15 H locs hP hS ls hl
      have hyk := hy k
      have hnk := hn k
      refine lv_iload hx hb dX0_broken_15 (lv_at hl 5 rfl) ?_
      refine lv_bipush (v := (nI 7)) hx hb dX0_broken_17 (by decide) ?_
      refine nv_cgeN hx hb 112 (by first | omega | exact nd_lt (by omega) | exact Nat.lt_of_le_of_lt Nat.and_le_left (by omega) | exact Nat.lt_of_le_of_lt Nat.and_le_right (by omega)) (by first | omega | exact nd_lt (by omega) | exact Nat.lt_of_le_of_lt Nat.and_le_left (by omega) | exact Nat.lt_of_le_of_lt Nat.and_le_right (by omega)) dX0_broken_19 (by decide) (fun c_19 => ?_) (fun c_19 => ?_)
      · skip
        refine lv_iconst (v := (nI 0)) hx hb dX0_broken_112 (by decide) ?_
        exact pi_retz hx hb hr hlocks hS (Or.inl rfl) (by rw [show k = 7 by omega] at hno; rw [brk, hno]; rfl) dX0_broken_113
      · skip
        refine lv_iload_n hx hb dX0_broken_22 rfl (lv_at hl 1 rfl) ?_
        refine lv_iload hx hb dX0_broken_23 (lv_at hl 5 rfl) ?_
        refine lv_ishr hx hb dX0_broken_25 ?_
        refine lv_iconst (v := (nI 1)) hx hb dX0_broken_26 (by decide) ?_
        refine nv_bit hx hb (by first | omega | exact nd_lt (by omega) | exact Nat.lt_of_le_of_lt Nat.and_le_left (by omega) | exact Nat.lt_of_le_of_lt Nat.and_le_right (by omega)) dX0_broken_27 ?_
        refine nv_eqB hx hb 106 dX0_broken_28 (by decide) (fun c_28 => ?_) (fun c_28 => ?_)
        · skip
          refine lv_iinc (v := (nI (k + 1))) (lv' := [(5, .int (nI (k + 1))), (0, .ref (ad 0)), (1, .int (nI S)), (2, .int (nI Q)), (3, .int (nI V)), (4, .int (nI (nd 15 (2 ^ Q - 1))))]) hx hb dX0_broken_106 hl (k := 5) rfl (nI_1 k) (by decide) rfl (fun ls hl => ?_)
          refine lv_goto (tgt := 15) hx hb dX0_broken_109 (by decide) ?_
          exact ih_15 (k + 1) (by omega) (by simp_all [anyN, bad]) (by omega) _ _ hP hS ls (lv_sub hl [1, 2, 3, 4, 5, 0] rfl)
        · skip
          refine lv_aload_n hx hb dX0_broken_31 rfl (lv_at hl 0 rfl) ?_
          refine va_get (D := (dC, dI)) (ci := 0) (v := .ref (ad 1)) (C := RX0) (T := TX0) (N := 7) hx hb hts in_X0 hown hK hP 0 rfl rfl 1 (by decide) (hts _ q30) (fun _ h9 => h9) rfl dX0_broken_32 ?_
          refine lv_iload hx hb dX0_broken_35 (lv_at hl 5 rfl) ?_
          refine nv_bald hx hb hK hP 1 0 rfl rfl (by first | omega | exact nd_lt (by omega) | exact Nat.lt_of_le_of_lt Nat.and_le_left (by omega) | exact Nat.lt_of_le_of_lt Nat.and_le_right (by omega)) (by decide) dX0_broken_37 ?_
          refine lv_aload_n hx hb dX0_broken_38 rfl (lv_at hl 0 rfl) ?_
          refine va_get (D := (dC, dI)) (ci := 0) (v := .ref (ad 2)) (C := RX0) (T := TX0) (N := 7) hx hb hts in_X0 hown hK hP 0 rfl rfl 2 (by decide) (hts _ q31) (fun _ h9 => h9) rfl dX0_broken_39 ?_
          refine lv_iload hx hb dX0_broken_42 (lv_at hl 5 rfl) ?_
          refine nv_bald hx hb hK hP 2 1 rfl rfl (by first | omega | exact nd_lt (by omega) | exact Nat.lt_of_le_of_lt Nat.and_le_left (by omega) | exact Nat.lt_of_le_of_lt Nat.and_le_right (by omega)) (by decide) dX0_broken_44 ?_
          refine nv_or hx hb dX0_broken_45 ?_
          refine lv_iload hx hb dX0_broken_46 (lv_at hl 4 rfl) ?_
          refine lv_iconst (v := (-1)) hx hb dX0_broken_48 (by decide) ?_
          refine lv_ixor hx hb dX0_broken_49 ?_
          refine nv_andn hx hb dX0_broken_50 ?_
          refine nv_neN hx hb 58 (nd_lt (Nat.lt_trans (Nat.or_lt_two_pow (n := 4) hyk hnk) (by decide))) dX0_broken_51 (by decide) (fun c_51 => ?_) (fun c_51 => ?_)
          · skip
            refine lv_iconst (v := (nI 0)) hx hb dX0_broken_58 (by decide) ?_
            refine lv_istore (lv' := [(6, .int (nI 0)), (0, .ref (ad 0)), (1, .int (nI S)), (2, .int (nI Q)), (3, .int (nI V)), (4, .int (nI (nd 15 (2 ^ Q - 1)))), (5, .int (nI k))]) hx hb dX0_broken_59 hl (by decide) rfl (fun ls hl => ?_)
            refine lv_aload_n hx hb dX0_broken_61 rfl (lv_at hl 1 rfl) ?_
            refine va_get (D := (dC, dI)) (ci := 0) (v := .ref (ad 1)) (C := RX0) (T := TX0) (N := 7) hx hb hts in_X0 hown hK hP 0 rfl rfl 1 (by decide) (hts _ q30) (fun _ h9 => h9) rfl dX0_broken_62 ?_
            refine lv_iload hx hb dX0_broken_65 (lv_at hl 6 rfl) ?_
            refine nv_bald hx hb hK hP 1 0 rfl rfl (by first | omega | exact nd_lt (by omega) | exact Nat.lt_of_le_of_lt Nat.and_le_left (by omega) | exact Nat.lt_of_le_of_lt Nat.and_le_right (by omega)) (by decide) dX0_broken_67 ?_
            refine lv_iload_n hx hb dX0_broken_68 rfl (lv_at hl 4 rfl) ?_
            refine nv_and hx hb dX0_broken_69 ?_
            refine nv_neN hx hb 87 (by first | omega | exact nd_lt (by omega) | exact Nat.lt_of_le_of_lt Nat.and_le_left (by omega) | exact Nat.lt_of_le_of_lt Nat.and_le_right (by omega)) dX0_broken_70 (by decide) (fun c_70 => ?_) (fun c_70 => ?_)
            · skip
              refine lv_iconst (v := (nI 1)) hx hb dX0_broken_87 (by decide) ?_
              refine lv_goto (tgt := 92) hx hb dX0_broken_88 (by decide) ?_
              refine lv_istore (lv' := [(7, .int (nI 1)), (6, .int (nI 0)), (0, .ref (ad 0)), (1, .int (nI S)), (2, .int (nI Q)), (3, .int (nI V)), (4, .int (nI (nd 15 (2 ^ Q - 1)))), (5, .int (nI k))]) hx hb dX0_broken_92 hl (by decide) rfl (fun ls hl => ?_)
              refine lv_iload hx hb dX0_broken_94 (lv_at hl 1 rfl) ?_
              refine nv_eqN hx hb 106 (by first | omega | exact nd_lt (by omega) | exact Nat.lt_of_le_of_lt Nat.and_le_left (by omega) | exact Nat.lt_of_le_of_lt Nat.and_le_right (by omega)) dX0_broken_96 (by decide) (fun c_96 => ?_) (fun c_96 => absurd c_96 (by decide))
              refine lv_iinc (v := (nI (k + 1))) (lv' := [(5, .int (nI (k + 1))), (7, .int (nI 1)), (6, .int (nI 0)), (0, .ref (ad 0)), (1, .int (nI S)), (2, .int (nI Q)), (3, .int (nI V)), (4, .int (nI (nd 15 (2 ^ Q - 1))))]) hx hb dX0_broken_106 hl (k := 7) rfl (nI_1 k) (by decide) rfl (fun ls hl => ?_)
              refine lv_goto (tgt := 15) hx hb dX0_broken_109 (by decide) ?_
              exact ih_15 (k + 1) (by omega) (by simp_all [anyN, bad]) (by omega) _ _ hP hS ls (lv_sub hl [3, 4, 5, 6, 7, 0] rfl)
            · skip
              refine lv_aload_n hx hb dX0_broken_73 rfl (lv_at hl 1 rfl) ?_
              refine va_get (D := (dC, dI)) (ci := 0) (v := .ref (ad 2)) (C := RX0) (T := TX0) (N := 7) hx hb hts in_X0 hown hK hP 0 rfl rfl 2 (by decide) (hts _ q31) (fun _ h9 => h9) rfl dX0_broken_74 ?_
              refine lv_iload hx hb dX0_broken_77 (lv_at hl 6 rfl) ?_
              refine nv_bald hx hb hK hP 2 1 rfl rfl (by first | omega | exact nd_lt (by omega) | exact Nat.lt_of_le_of_lt Nat.and_le_left (by omega) | exact Nat.lt_of_le_of_lt Nat.and_le_right (by omega)) (by decide) dX0_broken_79 ?_
              refine lv_iload_n hx hb dX0_broken_80 rfl (lv_at hl 4 rfl) ?_
              refine lv_iconst (v := (-1)) hx hb dX0_broken_81 (by decide) ?_
              refine lv_ixor hx hb dX0_broken_82 ?_
              refine nv_andn hx hb dX0_broken_83 ?_
              refine nv_eqN hx hb 91 (by first | omega | exact nd_lt (by omega) | exact Nat.lt_of_le_of_lt Nat.and_le_left (by omega) | exact Nat.lt_of_le_of_lt Nat.and_le_right (by omega)) dX0_broken_84 (by decide) (fun c_84 => ?_) (fun c_84 => ?_)
              · skip
                refine lv_iconst (v := (nI 0)) hx hb dX0_broken_91 (by decide) ?_
                refine lv_istore (lv' := [(7, .int (nI 0)), (6, .int (nI 0)), (0, .ref (ad 0)), (1, .int (nI S)), (2, .int (nI Q)), (3, .int (nI V)), (4, .int (nI (nd 15 (2 ^ Q - 1)))), (5, .int (nI k))]) hx hb dX0_broken_92 hl (by decide) rfl (fun ls hl => ?_)
                refine lv_iload hx hb dX0_broken_94 (lv_at hl 1 rfl) ?_
                refine nv_eqN hx hb 106 (by first | omega | exact nd_lt (by omega) | exact Nat.lt_of_le_of_lt Nat.and_le_left (by omega) | exact Nat.lt_of_le_of_lt Nat.and_le_right (by omega)) dX0_broken_96 (by decide) (fun c_96 => ?_) (fun c_96 => absurd c_96 (by decide))
                refine lv_iinc (v := (nI (k + 1))) (lv' := [(5, .int (nI (k + 1))), (7, .int (nI 0)), (6, .int (nI 0)), (0, .ref (ad 0)), (1, .int (nI S)), (2, .int (nI Q)), (3, .int (nI V)), (4, .int (nI (nd 15 (2 ^ Q - 1))))]) hx hb dX0_broken_106 hl (k := 7) rfl (nI_1 k) (by decide) rfl (fun ls hl => ?_)
                refine lv_goto (tgt := 15) hx hb dX0_broken_109 (by decide) ?_
                exact ih_15 (k + 1) (by omega) (by simp_all [anyN, bad]) (by omega) _ _ hP hS ls (lv_sub hl [3, 4, 5, 6, 7, 0] rfl)
              · skip
                refine lv_iconst (v := (nI 1)) hx hb dX0_broken_87 (by decide) ?_
                refine lv_goto (tgt := 92) hx hb dX0_broken_88 (by decide) ?_
                refine lv_istore (lv' := [(7, .int (nI 1)), (6, .int (nI 0)), (0, .ref (ad 0)), (1, .int (nI S)), (2, .int (nI Q)), (3, .int (nI V)), (4, .int (nI (nd 15 (2 ^ Q - 1)))), (5, .int (nI k))]) hx hb dX0_broken_92 hl (by decide) rfl (fun ls hl => ?_)
                refine lv_iload hx hb dX0_broken_94 (lv_at hl 1 rfl) ?_
                refine nv_eqN hx hb 106 (by first | omega | exact nd_lt (by omega) | exact Nat.lt_of_le_of_lt Nat.and_le_left (by omega) | exact Nat.lt_of_le_of_lt Nat.and_le_right (by omega)) dX0_broken_96 (by decide) (fun c_96 => ?_) (fun c_96 => absurd c_96 (by decide))
                refine lv_iinc (v := (nI (k + 1))) (lv' := [(5, .int (nI (k + 1))), (7, .int (nI 1)), (6, .int (nI 0)), (0, .ref (ad 0)), (1, .int (nI S)), (2, .int (nI Q)), (3, .int (nI V)), (4, .int (nI (nd 15 (2 ^ Q - 1))))]) hx hb dX0_broken_106 hl (k := 7) rfl (nI_1 k) (by decide) rfl (fun ls hl => ?_)
                refine lv_goto (tgt := 15) hx hb dX0_broken_109 (by decide) ?_
                exact ih_15 (k + 1) (by omega) (by simp_all [anyN, bad]) (by omega) _ _ hP hS ls (lv_sub hl [3, 4, 5, 6, 7, 0] rfl)
          · skip
            refine lv_iconst (v := (nI 1)) hx hb dX0_broken_54 (by decide) ?_
            refine lv_goto (tgt := 59) hx hb dX0_broken_55 (by decide) ?_
            refine lv_istore (lv' := [(6, .int (nI 1)), (0, .ref (ad 0)), (1, .int (nI S)), (2, .int (nI Q)), (3, .int (nI V)), (4, .int (nI (nd 15 (2 ^ Q - 1)))), (5, .int (nI k))]) hx hb dX0_broken_59 hl (by decide) rfl (fun ls hl => ?_)
            refine lv_aload_n hx hb dX0_broken_61 rfl (lv_at hl 1 rfl) ?_
            refine va_get (D := (dC, dI)) (ci := 0) (v := .ref (ad 1)) (C := RX0) (T := TX0) (N := 7) hx hb hts in_X0 hown hK hP 0 rfl rfl 1 (by decide) (hts _ q30) (fun _ h9 => h9) rfl dX0_broken_62 ?_
            refine lv_iload hx hb dX0_broken_65 (lv_at hl 6 rfl) ?_
            refine nv_bald hx hb hK hP 1 0 rfl rfl (by first | omega | exact nd_lt (by omega) | exact Nat.lt_of_le_of_lt Nat.and_le_left (by omega) | exact Nat.lt_of_le_of_lt Nat.and_le_right (by omega)) (by decide) dX0_broken_67 ?_
            refine lv_iload_n hx hb dX0_broken_68 rfl (lv_at hl 4 rfl) ?_
            refine nv_and hx hb dX0_broken_69 ?_
            refine nv_neN hx hb 87 (by first | omega | exact nd_lt (by omega) | exact Nat.lt_of_le_of_lt Nat.and_le_left (by omega) | exact Nat.lt_of_le_of_lt Nat.and_le_right (by omega)) dX0_broken_70 (by decide) (fun c_70 => ?_) (fun c_70 => ?_)
            · skip
              refine lv_iconst (v := (nI 1)) hx hb dX0_broken_87 (by decide) ?_
              refine lv_goto (tgt := 92) hx hb dX0_broken_88 (by decide) ?_
              refine lv_istore (lv' := [(7, .int (nI 1)), (6, .int (nI 1)), (0, .ref (ad 0)), (1, .int (nI S)), (2, .int (nI Q)), (3, .int (nI V)), (4, .int (nI (nd 15 (2 ^ Q - 1)))), (5, .int (nI k))]) hx hb dX0_broken_92 hl (by decide) rfl (fun ls hl => ?_)
              refine lv_iload hx hb dX0_broken_94 (lv_at hl 1 rfl) ?_
              refine nv_eqN hx hb 106 (by first | omega | exact nd_lt (by omega) | exact Nat.lt_of_le_of_lt Nat.and_le_left (by omega) | exact Nat.lt_of_le_of_lt Nat.and_le_right (by omega)) dX0_broken_96 (by decide) (fun c_96 => absurd c_96 (by decide)) (fun c_96 => ?_)
              refine lv_iload hx hb dX0_broken_99 (lv_at hl 0 rfl) ?_
              refine nv_neN hx hb 106 (by first | omega | exact nd_lt (by omega) | exact Nat.lt_of_le_of_lt Nat.and_le_left (by omega) | exact Nat.lt_of_le_of_lt Nat.and_le_right (by omega)) dX0_broken_101 (by decide) (fun c_101 => ?_) (fun c_101 => absurd c_101 (by decide))
              refine lv_iinc (v := (nI (k + 1))) (lv' := [(5, .int (nI (k + 1))), (7, .int (nI 1)), (6, .int (nI 1)), (0, .ref (ad 0)), (1, .int (nI S)), (2, .int (nI Q)), (3, .int (nI V)), (4, .int (nI (nd 15 (2 ^ Q - 1))))]) hx hb dX0_broken_106 hl (k := 7) rfl (nI_1 k) (by decide) rfl (fun ls hl => ?_)
              refine lv_goto (tgt := 15) hx hb dX0_broken_109 (by decide) ?_
              exact ih_15 (k + 1) (by omega) (by simp_all [anyN, bad]) (by omega) _ _ hP hS ls (lv_sub hl [3, 4, 5, 6, 7, 0] rfl)
            · skip
              refine lv_aload_n hx hb dX0_broken_73 rfl (lv_at hl 1 rfl) ?_
              refine va_get (D := (dC, dI)) (ci := 0) (v := .ref (ad 2)) (C := RX0) (T := TX0) (N := 7) hx hb hts in_X0 hown hK hP 0 rfl rfl 2 (by decide) (hts _ q31) (fun _ h9 => h9) rfl dX0_broken_74 ?_
              refine lv_iload hx hb dX0_broken_77 (lv_at hl 6 rfl) ?_
              refine nv_bald hx hb hK hP 2 1 rfl rfl (by first | omega | exact nd_lt (by omega) | exact Nat.lt_of_le_of_lt Nat.and_le_left (by omega) | exact Nat.lt_of_le_of_lt Nat.and_le_right (by omega)) (by decide) dX0_broken_79 ?_
              refine lv_iload_n hx hb dX0_broken_80 rfl (lv_at hl 4 rfl) ?_
              refine lv_iconst (v := (-1)) hx hb dX0_broken_81 (by decide) ?_
              refine lv_ixor hx hb dX0_broken_82 ?_
              refine nv_andn hx hb dX0_broken_83 ?_
              refine nv_eqN hx hb 91 (by first | omega | exact nd_lt (by omega) | exact Nat.lt_of_le_of_lt Nat.and_le_left (by omega) | exact Nat.lt_of_le_of_lt Nat.and_le_right (by omega)) dX0_broken_84 (by decide) (fun c_84 => ?_) (fun c_84 => ?_)
              · skip
                refine lv_iconst (v := (nI 0)) hx hb dX0_broken_91 (by decide) ?_
                refine lv_istore (lv' := [(7, .int (nI 0)), (6, .int (nI 1)), (0, .ref (ad 0)), (1, .int (nI S)), (2, .int (nI Q)), (3, .int (nI V)), (4, .int (nI (nd 15 (2 ^ Q - 1)))), (5, .int (nI k))]) hx hb dX0_broken_92 hl (by decide) rfl (fun ls hl => ?_)
                refine lv_iload hx hb dX0_broken_94 (lv_at hl 1 rfl) ?_
                refine nv_eqN hx hb 106 (by first | omega | exact nd_lt (by omega) | exact Nat.lt_of_le_of_lt Nat.and_le_left (by omega) | exact Nat.lt_of_le_of_lt Nat.and_le_right (by omega)) dX0_broken_96 (by decide) (fun c_96 => absurd c_96 (by decide)) (fun c_96 => ?_)
                refine lv_iload hx hb dX0_broken_99 (lv_at hl 0 rfl) ?_
                refine nv_neN hx hb 106 (by first | omega | exact nd_lt (by omega) | exact Nat.lt_of_le_of_lt Nat.and_le_left (by omega) | exact Nat.lt_of_le_of_lt Nat.and_le_right (by omega)) dX0_broken_101 (by decide) (fun c_101 => absurd c_101 (by decide)) (fun c_101 => ?_)
                refine lv_iconst (v := (nI 1)) hx hb dX0_broken_104 (by decide) ?_
                exact pi_retz hx hb hr hlocks hS (Or.inr rfl) (by rw [brk, anyN_iff.mpr ⟨k, by omega, by simp_all [bad]⟩]; rfl) dX0_broken_105
              · skip
                refine lv_iconst (v := (nI 1)) hx hb dX0_broken_87 (by decide) ?_
                refine lv_goto (tgt := 92) hx hb dX0_broken_88 (by decide) ?_
                refine lv_istore (lv' := [(7, .int (nI 1)), (6, .int (nI 1)), (0, .ref (ad 0)), (1, .int (nI S)), (2, .int (nI Q)), (3, .int (nI V)), (4, .int (nI (nd 15 (2 ^ Q - 1)))), (5, .int (nI k))]) hx hb dX0_broken_92 hl (by decide) rfl (fun ls hl => ?_)
                refine lv_iload hx hb dX0_broken_94 (lv_at hl 1 rfl) ?_
                refine nv_eqN hx hb 106 (by first | omega | exact nd_lt (by omega) | exact Nat.lt_of_le_of_lt Nat.and_le_left (by omega) | exact Nat.lt_of_le_of_lt Nat.and_le_right (by omega)) dX0_broken_96 (by decide) (fun c_96 => absurd c_96 (by decide)) (fun c_96 => ?_)
                refine lv_iload hx hb dX0_broken_99 (lv_at hl 0 rfl) ?_
                refine nv_neN hx hb 106 (by first | omega | exact nd_lt (by omega) | exact Nat.lt_of_le_of_lt Nat.and_le_left (by omega) | exact Nat.lt_of_le_of_lt Nat.and_le_right (by omega)) dX0_broken_101 (by decide) (fun c_101 => ?_) (fun c_101 => absurd c_101 (by decide))
                refine lv_iinc (v := (nI (k + 1))) (lv' := [(5, .int (nI (k + 1))), (7, .int (nI 1)), (6, .int (nI 1)), (0, .ref (ad 0)), (1, .int (nI S)), (2, .int (nI Q)), (3, .int (nI V)), (4, .int (nI (nd 15 (2 ^ Q - 1))))]) hx hb dX0_broken_106 hl (k := 7) rfl (nI_1 k) (by decide) rfl (fun ls hl => ?_)
                refine lv_goto (tgt := 15) hx hb dX0_broken_109 (by decide) ?_
                exact ih_15 (k + 1) (by omega) (by simp_all [anyN, bad]) (by omega) _ _ hP hS ls (lv_sub hl [3, 4, 5, 6, 7, 0] rfl)
  exact loop_15 (7 - 0 + 1) 0 (by omega) rfl (Nat.lt_succ_self _) _ _ hP hS ls (lv_sub hl [2, 3, 4, 5, 1, 0] rfl)
end
section
/-! undecided's counter: -1 .. 127 as preO k -/
set_option maxRecDepth 100000
def preO (k : Nat) : Option Nat := match k with
  | 0 => none
  | j + 1 => some j
theorem pre_none {k : Nat} (h : preO k = none) : k = 0 := by
  cases k with
  | zero => rfl
  | succ j => cases h
theorem pre_some {k j : Nat} (h : preO k = some j) : k = j + 1 := by
  cases k with
  | zero => cases h
  | succ i => cases h; rfl
theorem pre_lt {k j : Nat} (hk : k ≤ 128) (h : preO k = some j) : j < 2 ^ 31 := by
  have := pre_some h
  omega
theorem pre_dec (j : Nat) : nI j + Int32.ofInt (-1) = oI (preO j) := by
  cases j with
  | zero => decide
  | succ i => exact pk_m1 i
theorem und_step {P : Nat} {fd : Nat → Int64} {j : Nat} (hno : ∀ t, j + 1 ≤ t → t < 128 → undB P fd t = false) (h : undB P fd j = false) : ∀ t, j ≤ t → t < 128 → undB P fd t = false := by
  intro t h1 h2
  rcases Nat.lt_or_ge j t with h3 | h3
  · exact hno t h3 h2
  · rw [show t = j by omega]; exact h
end
section
set_option maxRecDepth 100000
set_option maxHeartbeats 4000000 in
set_option maxRecDepth 100000 in
/-- solve(set, in, out) -/
theorem mX0_solve (l : Launch) (dC : Nat → ClassId) (dI : Nat → Nat → Nat) (ad : Nat → Nat) (cA : Nat → ClassId) (P : Nat) (y n : Nat → Nat) (kn : Int32) (fd fc fr : Nat → Int64) (S J O : Nat) (hy : ∀ k, y k < 16) (hn : ∀ k, n k < 16) (hJ : J < 16) (hO : O < 16) : PI l yX0_solve cX0_solve 9 (some .int) ({ frames := 1, cells := 0, slots := 0, locals := 27 } : Room) [.ref (ad 0), .int (nI S), .int (nI J), .int (nI O)] (dC, dI) (wX ad cA P y n kn fd fc fr) (tX cA) (oI (slv y n S J O)) := by
  refine PI.of (by decide) (Nat.le_of_ble_eq_true rfl) ?_
  intro p e s m below meth c hx hb hr hlocks hml hown hts hK H locs hP hS ls hl
  have hown : s.vm.findClass "CoreFinder" = some m.cls := hown
  have hl : lv_has ls 9 [(0, .ref (ad 0)), (1, .int (nI S)), (2, .int (nI J)), (3, .int (nI O))] := hl
  refine lv_iconst (v := (nI 4)) hx hb dX0_solve_0 (by decide) ?_
  refine lv_istore (lv' := [(4, .int (nI 4)), (0, .ref (ad 0)), (1, .int (nI S)), (2, .int (nI J)), (3, .int (nI O))]) hx hb dX0_solve_1 hl (by decide) rfl (fun ls hl => ?_)
  refine lv_iconst (v := (nI 0)) hx hb dX0_solve_3 (by decide) ?_
  refine lv_istore (lv' := [(5, .int (nI 0)), (4, .int (nI 4)), (0, .ref (ad 0)), (1, .int (nI S)), (2, .int (nI J)), (3, .int (nI O))]) hx hb dX0_solve_4 hl (by decide) rfl (fun ls hl => ?_)
  refine lv_iconst (v := (nI 0)) hx hb dX0_solve_6 (by decide) ?_
  refine lv_istore (lv' := [(6, .int (nI 0)), (5, .int (nI 0)), (4, .int (nI 4)), (0, .ref (ad 0)), (1, .int (nI S)), (2, .int (nI J)), (3, .int (nI O))]) hx hb dX0_solve_7 hl (by decide) rfl (fun ls hl => ?_)
  have loop_9 : ∀ (n_ : Nat) (Q : Nat) (V : Nat) (r : Nat), (Q ≤ 4) → (V < 16) → (V % 2 ^ Q = 0) → (r ≤ dfs Q V) → (∀ v, v < V → sol y n S J O v = false) → 64 - r < n_ → ∀ (H : Heap) (locs : List Loc), va_P (dC, dI) vwCl (wX ad cA P y n kn fd fc fr) H → va_S (fun _ => False) s.heap H locs → ∀ (ls : Array Slot), lv_has ls 9 [(0, .ref (ad 0)), (1, .int (nI S)), (2, .int (nI J)), (3, .int (nI O)), (4, .int (nI Q)), (5, .int (nI V)), (6, .int (nI r))] → W p l e ({ frames := 1, cells := 0, slots := 0, locals := 27 } : Room) s m ([.ref (ad 0), .int (nI S), .int (nI J), .int (nI O)] : List Value).toArray below meth c H locs 0 0 (QP below (oI (slv y n S J O)) ([.ref (ad 0), .int (nI S), .int (nI J), .int (nI O)] : List Value).toArray s) (F0 m 9 ls []) := by
    intro n_
    induction n_ with
    | zero =>
      intro Q V r hQ hV hm hr9 hno hlt
      exact absurd hlt (Nat.not_lt_zero _)
    | succ n_ ih_9 =>
      intro Q V r hQ hV hm hr9 hno hlt_9 H locs hP hS ls hl
      have hd30 := dfs_le hQ hV
      refine lv_iload hx hb dX0_solve_9 (lv_at hl 6 rfl) ?_
      refine lv_bipush (v := (nI 64)) hx hb dX0_solve_11 (by decide) ?_
      refine nv_cgeN hx hb 147 (by first | omega | exact nd_lt (by omega) | exact Nat.lt_of_le_of_lt Nat.and_le_left (by omega) | exact Nat.lt_of_le_of_lt Nat.and_le_right (by omega)) (by first | omega | exact nd_lt (by omega) | exact Nat.lt_of_le_of_lt Nat.and_le_left (by omega) | exact Nat.lt_of_le_of_lt Nat.and_le_right (by omega)) dX0_solve_13 (by decide) (fun c_13 => absurd c_13 (by omega)) (fun c_13 => ?_)
      refine lv_bipush (v := (nI 15)) hx hb dX0_solve_16 (by decide) ?_
      refine lv_iconst (v := (nI 1)) hx hb dX0_solve_18 (by decide) ?_
      refine lv_iload hx hb dX0_solve_19 (lv_at hl 4 rfl) ?_
      refine nv_shl1 hx hb (by first | omega | exact nd_lt (by omega) | exact Nat.lt_of_le_of_lt Nat.and_le_left (by omega) | exact Nat.lt_of_le_of_lt Nat.and_le_right (by omega)) dX0_solve_21 ?_
      refine lv_iconst (v := (nI 1)) hx hb dX0_solve_22 (by decide) ?_
      refine nv_sub hx hb (Nat.one_le_two_pow) dX0_solve_23 ?_
      refine lv_iconst (v := (-1)) hx hb dX0_solve_24 (by decide) ?_
      refine lv_ixor hx hb dX0_solve_25 ?_
      refine nv_andn hx hb dX0_solve_26 ?_
      refine lv_istore (lv' := [(7, .int (nI (nd 15 ((2 ^ Q) - 1)))), (0, .ref (ad 0)), (1, .int (nI S)), (2, .int (nI J)), (3, .int (nI O)), (4, .int (nI Q)), (5, .int (nI V)), (6, .int (nI r))]) hx hb dX0_solve_27 hl (by decide) rfl (fun ls hl => ?_)
      refine lv_aload_n hx hb dX0_solve_29 rfl (lv_at hl 1 rfl) ?_
      refine lv_iload_n hx hb dX0_solve_30 rfl (lv_at hl 2 rfl) ?_
      refine lv_iload hx hb dX0_solve_31 (lv_at hl 5 rfl) ?_
      refine lv_iload hx hb dX0_solve_33 (lv_at hl 6 rfl) ?_
      refine pi_callV (ws0 := (wX ad cA P y n kn fd fc fr)) (rest := []) ⟨hx, hb, hml, hown, hts⟩ [.int (nI S), .int (nI Q), .int (nI V)] (mX0_broken l dC dI ad cA P y n kn fd fc fr S Q V hy hn hQ hV) (lw_V q84 q86 qs3 q19 q87) hdX0_broken ⟨Nat.le_of_ble_eq_true rfl, Nat.le_of_ble_eq_true rfl⟩ ⟨rfl, rfl⟩ hK hP (q0 := 0) (ci := 0) rfl rfl rfl hl.1 rfl (Nat.le_of_ble_eq_true rfl) dX0_solve_35 ⟨Nat.zero_le _, Nat.zero_le _⟩ hP hS (fun H locs hP hS => ?_)
      have join_60 : (∀ v, v < V + 2 ^ Q → sol y n S J O v = false) → ∀ (H : Heap) (locs : List Loc), va_P (dC, dI) vwCl (wX ad cA P y n kn fd fc fr) H → va_S (fun _ => False) s.heap H locs → ∀ (ls : Array Slot), lv_has ls 9 [(0, .ref (ad 0)), (1, .int (nI S)), (2, .int (nI J)), (3, .int (nI O)), (4, .int (nI Q)), (5, .int (nI V)), (6, .int (nI r)), (7, .int (nI (nd 15 (2 ^ Q - 1))))] → W p l e ({ frames := 1, cells := 0, slots := 0, locals := 27 } : Room) s m ([.ref (ad 0), .int (nI S), .int (nI J), .int (nI O)] : List Value).toArray below meth c H locs 0 0 (QP below (oI (slv y n S J O)) ([.ref (ad 0), .int (nI S), .int (nI J), .int (nI O)] : List Value).toArray s) (F0 m 60 ls []) := by
        intro  hf H locs hP hS ls hl
        refine lv_iconst (v := (nI 1)) hx hb dX0_solve_60 (by decide) ?_
        refine lv_goto (tgt := 65) hx hb dX0_solve_61 (by decide) ?_
        refine lv_istore (lv' := [(8, .int (nI 1)), (0, .ref (ad 0)), (1, .int (nI S)), (2, .int (nI J)), (3, .int (nI O)), (4, .int (nI Q)), (5, .int (nI V)), (6, .int (nI r)), (7, .int (nI (nd 15 (2 ^ Q - 1))))]) hx hb dX0_solve_65 hl (by decide) rfl (fun ls hl => ?_)
        refine lv_iload hx hb dX0_solve_67 (lv_at hl 0 rfl) ?_
        refine nv_neN hx hb 80 (by first | omega | exact nd_lt (by omega) | exact Nat.lt_of_le_of_lt Nat.and_le_left (by omega) | exact Nat.lt_of_le_of_lt Nat.and_le_right (by omega)) dX0_solve_69 (by decide) (fun c_69 => ?_) (fun c_69 => absurd c_69 (by decide))
        refine lv_iload hx hb dX0_solve_80 (lv_at hl 0 rfl) ?_
        refine nv_neN hx hb 91 (by first | omega | exact nd_lt (by omega) | exact Nat.lt_of_le_of_lt Nat.and_le_left (by omega) | exact Nat.lt_of_le_of_lt Nat.and_le_right (by omega)) dX0_solve_82 (by decide) (fun c_82 => ?_) (fun c_82 => absurd c_82 (by decide))
        have loop_91 : ∀ (n_ : Nat) (Q2 : Nat) (V2 : Nat), (Q2 ≤ 4) → (V2 < 16) → (V2 % 2 ^ Q2 = 0) → (V2 + 2 ^ Q2 = V + 2 ^ Q) → 4 - Q2 < n_ → ∀ (H : Heap) (locs : List Loc), va_P (dC, dI) vwCl (wX ad cA P y n kn fd fc fr) H → va_S (fun _ => False) s.heap H locs → ∀ (ls : Array Slot), lv_has ls 9 [(0, .ref (ad 0)), (1, .int (nI S)), (2, .int (nI J)), (3, .int (nI O)), (4, .int (nI Q2)), (5, .int (nI V2)), (6, .int (nI r))] → W p l e ({ frames := 1, cells := 0, slots := 0, locals := 27 } : Room) s m ([.ref (ad 0), .int (nI S), .int (nI J), .int (nI O)] : List Value).toArray below meth c H locs 0 0 (QP below (oI (slv y n S J O)) ([.ref (ad 0), .int (nI S), .int (nI J), .int (nI O)] : List Value).toArray s) (F0 m 91 ls []) := by
          intro n_
          induction n_ with
          | zero =>
            intro Q2 V2 hQ2 hV2 hm2 hs2 hlt
            exact absurd hlt (Nat.not_lt_zero _)
          | succ n_ ih_91 =>
            intro Q2 V2 hQ2 hV2 hm2 hs2 hlt_91 H locs hP hS ls hl
            refine lv_iload hx hb dX0_solve_91 (lv_at hl 4 rfl) ?_
            refine lv_iconst (v := (nI 4)) hx hb dX0_solve_93 (by decide) ?_
            refine nv_cgeN hx hb 124 (by first | omega | exact nd_lt (by omega) | exact Nat.lt_of_le_of_lt Nat.and_le_left (by omega) | exact Nat.lt_of_le_of_lt Nat.and_le_right (by omega)) (by first | omega | exact nd_lt (by omega) | exact Nat.lt_of_le_of_lt Nat.and_le_left (by omega) | exact Nat.lt_of_le_of_lt Nat.and_le_right (by omega)) dX0_solve_94 (by decide) (fun c_94 => ?_) (fun c_94 => ?_)
            · skip
              refine lv_iload hx hb dX0_solve_124 (lv_at hl 4 rfl) ?_
              refine lv_iconst (v := (nI 4)) hx hb dX0_solve_126 (by decide) ?_
              refine nv_cneN hx hb 132 (by first | omega | exact nd_lt (by omega) | exact Nat.lt_of_le_of_lt Nat.and_le_left (by omega) | exact Nat.lt_of_le_of_lt Nat.and_le_right (by omega)) (by first | omega | exact nd_lt (by omega) | exact Nat.lt_of_le_of_lt Nat.and_le_left (by omega) | exact Nat.lt_of_le_of_lt Nat.and_le_right (by omega)) dX0_solve_127 (by decide) (fun c_127 => absurd c_127 (by omega)) (fun c_127 => ?_)
              refine lv_iconst (v := (-1)) hx hb dX0_solve_130 (by decide) ?_
              exact pi_ret hx hb hr hlocks hS (by rw [solve_miss hf (V2 := V2) (by rw [c_127] at hs2; exact hs2)]; rfl) dX0_solve_131
            · skip
              refine lv_iload hx hb dX0_solve_97 (lv_at hl 5 rfl) ?_
              refine lv_iload hx hb dX0_solve_99 (lv_at hl 4 rfl) ?_
              refine lv_ishr hx hb dX0_solve_101 ?_
              refine lv_iconst (v := (nI 1)) hx hb dX0_solve_102 (by decide) ?_
              refine nv_bit hx hb (by first | omega | exact nd_lt (by omega) | exact Nat.lt_of_le_of_lt Nat.and_le_left (by omega) | exact Nat.lt_of_le_of_lt Nat.and_le_right (by omega)) dX0_solve_103 ?_
              refine nv_eqB hx hb 124 dX0_solve_104 (by decide) (fun c_104 => ?_) (fun c_104 => ?_)
              · skip
                refine lv_iload hx hb dX0_solve_124 (lv_at hl 4 rfl) ?_
                refine lv_iconst (v := (nI 4)) hx hb dX0_solve_126 (by decide) ?_
                refine nv_cneN hx hb 132 (by first | omega | exact nd_lt (by omega) | exact Nat.lt_of_le_of_lt Nat.and_le_left (by omega) | exact Nat.lt_of_le_of_lt Nat.and_le_right (by omega)) (by first | omega | exact nd_lt (by omega) | exact Nat.lt_of_le_of_lt Nat.and_le_left (by omega) | exact Nat.lt_of_le_of_lt Nat.and_le_right (by omega)) dX0_solve_127 (by decide) (fun c_127 => ?_) (fun c_127 => absurd c_127 (by omega))
                have hup := dfs_up hQ hV c_94 hV2 hm hm2 c_104 hs2
                refine lv_iload hx hb dX0_solve_132 (lv_at hl 5 rfl) ?_
                refine lv_iconst (v := (nI 1)) hx hb dX0_solve_134 (by decide) ?_
                refine lv_iload hx hb dX0_solve_135 (lv_at hl 4 rfl) ?_
                refine nv_shl1 hx hb (by first | omega | exact nd_lt (by omega) | exact Nat.lt_of_le_of_lt Nat.and_le_left (by omega) | exact Nat.lt_of_le_of_lt Nat.and_le_right (by omega)) dX0_solve_137 ?_
                refine nv_or hx hb dX0_solve_138 ?_
                refine lv_istore (lv' := [(5, .int (nI (V2 ||| (2 ^ Q2)))), (0, .ref (ad 0)), (1, .int (nI S)), (2, .int (nI J)), (3, .int (nI O)), (4, .int (nI Q2)), (6, .int (nI r))]) hx hb dX0_solve_139 hl (by decide) rfl (fun ls hl => ?_)
                refine lv_iinc (v := (nI (r + 1))) (lv' := [(6, .int (nI (r + 1))), (5, .int (nI (V2 ||| (2 ^ Q2)))), (0, .ref (ad 0)), (1, .int (nI S)), (2, .int (nI J)), (3, .int (nI O)), (4, .int (nI Q2))]) hx hb dX0_solve_141 hl (k := 6) rfl (nI_1 r) (by decide) rfl (fun ls hl => ?_)
                refine lv_goto (tgt := 9) hx hb dX0_solve_144 (by decide) ?_
                exact ih_9 Q2 (V2 ||| (2 ^ Q2)) (r + 1) (by omega) hup.2.1 hup.2.2.1 (by have := hup.2.2.2; omega) (by rw [hup.1]; exact hf) (by omega) _ _ hP hS ls (lv_sub hl [2, 3, 4, 5, 6, 1, 0] rfl)
              · skip
                refine lv_iload hx hb dX0_solve_107 (lv_at hl 5 rfl) ?_
                refine lv_iconst (v := (nI 1)) hx hb dX0_solve_109 (by decide) ?_
                refine lv_iload hx hb dX0_solve_110 (lv_at hl 4 rfl) ?_
                refine nv_shl1 hx hb (by first | omega | exact nd_lt (by omega) | exact Nat.lt_of_le_of_lt Nat.and_le_left (by omega) | exact Nat.lt_of_le_of_lt Nat.and_le_right (by omega)) dX0_solve_112 ?_
                refine lv_iconst (v := (-1)) hx hb dX0_solve_113 (by decide) ?_
                refine lv_ixor hx hb dX0_solve_114 ?_
                refine nv_andn hx hb dX0_solve_115 ?_
                refine lv_istore (lv' := [(5, .int (nI (nd V2 (2 ^ Q2)))), (0, .ref (ad 0)), (1, .int (nI S)), (2, .int (nI J)), (3, .int (nI O)), (4, .int (nI Q2)), (6, .int (nI r))]) hx hb dX0_solve_116 hl (by decide) rfl (fun ls hl => ?_)
                refine lv_iinc (v := (nI (Q2 + 1))) (lv' := [(4, .int (nI (Q2 + 1))), (5, .int (nI (nd V2 (2 ^ Q2)))), (0, .ref (ad 0)), (1, .int (nI S)), (2, .int (nI J)), (3, .int (nI O)), (6, .int (nI r))]) hx hb dX0_solve_118 hl (k := 5) rfl (nI_1 Q2) (by decide) rfl (fun ls hl => ?_)
                refine lv_goto (tgt := 91) hx hb dX0_solve_121 (by decide) ?_
                exact ih_91 (Q2 + 1) (nd V2 (2 ^ Q2)) (by omega) (nd_lt hV2) (up_mod hV2 c_94 hm2 c_104) ((up_sum hV2 c_94 hm2 c_104).trans hs2) (by omega) _ _ hP hS ls (lv_sub hl [2, 3, 4, 5, 0, 1, 6] rfl)
        exact loop_91 (4 - Q + 1) Q V hQ hV hm rfl (Nat.lt_succ_self _) _ _ hP hS ls (lv_sub hl [1, 2, 3, 4, 5, 6, 7] rfl)
      refine nv_neB hx hb 60 dX0_solve_38 (by decide) (fun c_38 => ?_) (fun c_38 => ?_)
      · skip
        exact join_60  (fail_b hQ hV hm hno c_38) _ _ hP hS ls (lv_sub hl [1, 2, 3, 4, 5, 6, 7, 0] rfl)
      · skip
        refine lv_iload_n hx hb dX0_solve_41 rfl (lv_at hl 3 rfl) ?_
        refine lv_iload hx hb dX0_solve_42 (lv_at hl 0 rfl) ?_
        refine nv_and hx hb dX0_solve_44 ?_
        refine lv_iload hx hb dX0_solve_45 (lv_at hl 6 rfl) ?_
        refine lv_iconst (v := (-1)) hx hb dX0_solve_47 (by decide) ?_
        refine lv_ixor hx hb dX0_solve_48 ?_
        refine nv_andn hx hb dX0_solve_49 ?_
        refine nv_neN hx hb 60 (nd_lt (Nat.lt_of_le_of_lt Nat.and_le_left (by omega))) dX0_solve_50 (by decide) (fun c_50 => ?_) (fun c_50 => ?_)
        · skip
          exact join_60  (fail_i hQ hV hm hno c_50) _ _ hP hS ls (lv_sub hl [1, 2, 3, 4, 5, 6, 7, 0] rfl)
        · skip
          refine lv_iload_n hx hb dX0_solve_53 rfl (lv_at hl 4 rfl) ?_
          refine lv_iload hx hb dX0_solve_54 (lv_at hl 6 rfl) ?_
          refine nv_and hx hb dX0_solve_56 ?_
          refine nv_eqN hx hb 64 (by first | omega | exact nd_lt (by omega) | exact Nat.lt_of_le_of_lt Nat.and_le_left (by omega) | exact Nat.lt_of_le_of_lt Nat.and_le_right (by omega)) dX0_solve_57 (by decide) (fun c_57 => ?_) (fun c_57 => ?_)
          · skip
            refine lv_iconst (v := (nI 0)) hx hb dX0_solve_64 (by decide) ?_
            refine lv_istore (lv' := [(8, .int (nI 0)), (7, .int (nI (nd 15 ((2 ^ Q) - 1)))), (0, .ref (ad 0)), (1, .int (nI S)), (2, .int (nI J)), (3, .int (nI O)), (4, .int (nI Q)), (5, .int (nI V)), (6, .int (nI r))]) hx hb dX0_solve_65 hl (by decide) rfl (fun ls hl => ?_)
            refine lv_iload hx hb dX0_solve_67 (lv_at hl 0 rfl) ?_
            refine nv_neN hx hb 80 (by first | omega | exact nd_lt (by omega) | exact Nat.lt_of_le_of_lt Nat.and_le_left (by omega) | exact Nat.lt_of_le_of_lt Nat.and_le_right (by omega)) dX0_solve_69 (by decide) (fun c_69 => absurd c_69 (by decide)) (fun c_69 => ?_)
            refine lv_iload hx hb dX0_solve_72 (lv_at hl 6 rfl) ?_
            refine nv_neN hx hb 80 (by first | omega | exact nd_lt (by omega) | exact Nat.lt_of_le_of_lt Nat.and_le_left (by omega) | exact Nat.lt_of_le_of_lt Nat.and_le_right (by omega)) dX0_solve_74 (by decide) (fun c_74 => ?_) (fun c_74 => ?_)
            · skip
              refine lv_iload hx hb dX0_solve_80 (lv_at hl 0 rfl) ?_
              refine nv_neN hx hb 91 (by first | omega | exact nd_lt (by omega) | exact Nat.lt_of_le_of_lt Nat.and_le_left (by omega) | exact Nat.lt_of_le_of_lt Nat.and_le_right (by omega)) dX0_solve_82 (by decide) (fun c_82 => absurd c_82 (by decide)) (fun c_82 => ?_)
              refine lv_iinc (v := (nI (Q - 1))) (lv' := [(4, .int (nI (Q - 1))), (8, .int (nI 0)), (7, .int (nI (nd 15 ((2 ^ Q) - 1)))), (0, .ref (ad 0)), (1, .int (nI S)), (2, .int (nI J)), (3, .int (nI O)), (5, .int (nI V)), (6, .int (nI r))]) hx hb dX0_solve_85 hl (k := 6) rfl (sb_m1 (by omega)) (by decide) rfl (fun ls hl => ?_)
              refine lv_goto (tgt := 141) hx hb dX0_solve_88 (by decide) ?_
              refine lv_iinc (v := (nI (r + 1))) (lv' := [(6, .int (nI (r + 1))), (4, .int (nI (Q - 1))), (8, .int (nI 0)), (7, .int (nI (nd 15 ((2 ^ Q) - 1)))), (0, .ref (ad 0)), (1, .int (nI S)), (2, .int (nI J)), (3, .int (nI O)), (5, .int (nI V))]) hx hb dX0_solve_141 hl (k := 8) rfl (nI_1 r) (by decide) rfl (fun ls hl => ?_)
              refine lv_goto (tgt := 9) hx hb dX0_solve_144 (by decide) ?_
              exact ih_9 (Q - 1) V (r + 1) (by omega) hV (dfs_down0 Q (by omega) V hV c_74 hm).1 (by have := (dfs_down0 Q (by omega) V hV c_74 hm).2; omega) hno (by omega) _ _ hP hS ls (lv_sub hl [4, 5, 6, 7, 1, 8, 0] rfl)
            · skip
              refine lv_iload hx hb dX0_solve_77 (lv_at hl 7 rfl) ?_
              exact pi_ret hx hb hr hlocks hS (by subst c_74; rw [solve_hit hV hy hn hJ hno c_38 c_50 c_57]; rfl) dX0_solve_79
          · skip
            exact join_60  (fail_o hQ hV hm hno c_57) _ _ hP hS ls (lv_sub hl [1, 2, 3, 4, 5, 6, 7, 0] rfl)
  exact loop_9 (64 - 0 + 1) 4 0 0 (by decide) (by decide) (by decide) (Nat.zero_le _) (fun v hv => absurd hv (Nat.not_lt_zero v)) (Nat.lt_succ_self _) _ _ hP hS ls (lv_sub hl [3, 4, 5, 6, 2, 1, 0] rfl)
set_option maxHeartbeats 4000000 in
set_option maxRecDepth 100000 in
/-- holdsTogether(set) -/
theorem mX0_holdsTogether (l : Launch) (dC : Nat → ClassId) (dI : Nat → Nat → Nat) (ad : Nat → Nat) (cA : Nat → ClassId) (P : Nat) (y n : Nat → Nat) (kn : Int32) (fd fc fr : Nat → Int64) (S : Nat) (hy : ∀ k, y k < 16) (hn : ∀ k, n k < 16) : PI l yX0_holdsTogether cX0_holdsTogether 2 (some .boolean) ({ frames := 2, cells := 0, slots := 0, locals := 55 } : Room) [.ref (ad 0), .int (nI S)] (dC, dI) (wX ad cA P y n kn fd fc fr) (tX cA) (bI (cB y n S)) := by
  refine PI.of (by decide) (Nat.le_of_ble_eq_true rfl) ?_
  intro p e s m below meth c hx hb hr hlocks hml hown hts hK H locs hP hS ls hl
  have hown : s.vm.findClass "CoreFinder" = some m.cls := hown
  have hl : lv_has ls 2 [(0, .ref (ad 0)), (1, .int (nI S))] := hl
  refine lv_aload_n hx hb dX0_holdsTogether_0 rfl (lv_at hl 0 rfl) ?_
  refine lv_iload_n hx hb dX0_holdsTogether_1 rfl (lv_at hl 1 rfl) ?_
  refine lv_iconst (v := (nI 0)) hx hb dX0_holdsTogether_2 (by decide) ?_
  refine lv_iconst (v := (nI 0)) hx hb dX0_holdsTogether_3 (by decide) ?_
  refine pi_callV (ws0 := (wX ad cA P y n kn fd fc fr)) (rest := []) ⟨hx, hb, hml, hown, hts⟩ [.int (nI S), .int (nI 0), .int (nI 0)] (mX0_solve l dC dI ad cA P y n kn fd fc fr S 0 0 hy hn (by decide) (by decide)) (lw_V q80 q82 qs2 q19 q83) hdX0_solve ⟨Nat.le_of_ble_eq_true rfl, Nat.le_of_ble_eq_true rfl⟩ ⟨rfl, rfl⟩ hK hP (q0 := 0) (ci := 0) rfl rfl rfl hl.1 rfl (Nat.le_of_ble_eq_true rfl) dX0_holdsTogether_4 ⟨Nat.zero_le _, Nat.zero_le _⟩ hP hS (fun H locs hP hS => ?_)
  refine nv_ltO hx hb 14 (fun k hk => Nat.lt_trans (fndN_lt hk) (by decide)) dX0_holdsTogether_7 (by decide) (fun c_7 => ?_) (fun k_7 c_7 => ?_)
  · skip
    refine lv_iconst (v := (nI 0)) hx hb dX0_holdsTogether_14 (by decide) ?_
    exact pi_retz hx hb hr hlocks hS (Or.inl rfl) (by rw [slv00] at c_7; rw [cB, c_7]; rfl) dX0_holdsTogether_15
  · skip
    refine lv_iconst (v := (nI 1)) hx hb dX0_holdsTogether_10 (by decide) ?_
    refine lv_goto (tgt := 15) hx hb dX0_holdsTogether_11 (by decide) ?_
    exact pi_retz hx hb hr hlocks hS (Or.inr rfl) (by rw [slv00] at c_7; rw [cB, c_7]; rfl) dX0_holdsTogether_15
set_option maxHeartbeats 4000000 in
set_option maxRecDepth 100000 in
/-- inWords(low, high, set) -/
theorem mX0_inWords (l : Launch) (dC : Nat → ClassId) (dI : Nat → Nat → Nat) (lo hi : Int64) (S : Nat) (hS7 : S < 128) : PI l yX0_inWords cX0_inWords 5 (some .boolean) ({ frames := 0, cells := 0, slots := 0, locals := 0 } : Room) [.long lo, .long hi, .int (nI S)] (dC, dI) [] [] (bI (if S < 64 then lo.toBitVec.getLsbD S else hi.toBitVec.getLsbD (S - 64))) := by
  refine PI.of (by decide) (Nat.le_of_ble_eq_true rfl) ?_
  intro p e s m below meth c hx hb hr hlocks hml hown hts hK H locs hP hS ls hl
  have hown : s.vm.findClass "CoreFinder" = some m.cls := hown
  have hl : lv_has ls 5 [(0, .long lo), (2, .long hi), (4, .int (nI S))] := hl
  refine lv_iload hx hb dX0_inWords_0 (lv_at hl 2 rfl) ?_
  refine lv_bipush (v := (nI 64)) hx hb dX0_inWords_2 (by decide) ?_
  refine nv_cgeN hx hb 14 (by first | omega | exact nd_lt (by omega) | exact Nat.lt_of_le_of_lt Nat.and_le_left (by omega) | exact Nat.lt_of_le_of_lt Nat.and_le_right (by omega)) (by first | omega | exact nd_lt (by omega) | exact Nat.lt_of_le_of_lt Nat.and_le_left (by omega) | exact Nat.lt_of_le_of_lt Nat.and_le_right (by omega)) dX0_inWords_4 (by decide) (fun c_4 => ?_) (fun c_4 => ?_)
  · skip
    refine lv_lload_n hx hb dX0_inWords_14 rfl (lv_at hl 1 rfl) ?_
    refine lv_iload hx hb dX0_inWords_15 (lv_at hl 2 rfl) ?_
    refine lv_bipush (v := (nI 64)) hx hb dX0_inWords_17 (by decide) ?_
    refine nv_sub hx hb (by first | omega | exact nd_lt (by omega) | exact Nat.lt_of_le_of_lt Nat.and_le_left (by omega) | exact Nat.lt_of_le_of_lt Nat.and_le_right (by omega)) dX0_inWords_19 ?_
    refine lv_lushr (v := (hi.toUInt64 >>> ((nI (S - 64)).toInt64.toUInt64 &&& Int64.toUInt64 63)).toInt64) hx hb dX0_inWords_20 rfl ?_
    refine lv_lconst (v := 1) hx hb dX0_inWords_21 (by decide) ?_
    refine lv_land hx hb dX0_inWords_22 ?_
    refine nv_el (ln_bit hi (k := S - 64) (by omega)) ?_
    refine lv_lconst (v := 0) hx hb dX0_inWords_23 (by decide) ?_
    refine W.lcmp hx hb dX0_inWords_24 ?_
    refine nv_e (ln_cmp (hi.toBitVec.getLsbD (S - 64))) ?_
    refine nv_eqB hx hb 32 dX0_inWords_25 (by decide) (fun c_25 => ?_) (fun c_25 => ?_)
    · skip
      refine lv_iconst (v := (nI 0)) hx hb dX0_inWords_32 (by decide) ?_
      exact pi_retz hx hb hr hlocks hS (Or.inl rfl) (by rw [if_neg (by omega), c_25]; rfl) dX0_inWords_33
    · skip
      refine lv_iconst (v := (nI 1)) hx hb dX0_inWords_28 (by decide) ?_
      refine lv_goto (tgt := 33) hx hb dX0_inWords_29 (by decide) ?_
      exact pi_retz hx hb hr hlocks hS (Or.inr rfl) (by rw [if_neg (by omega), c_25]; rfl) dX0_inWords_33
  · skip
    refine lv_lload_n hx hb dX0_inWords_7 rfl (lv_at hl 0 rfl) ?_
    refine lv_iload hx hb dX0_inWords_8 (lv_at hl 2 rfl) ?_
    refine lv_lushr (v := (lo.toUInt64 >>> ((nI S).toInt64.toUInt64 &&& Int64.toUInt64 63)).toInt64) hx hb dX0_inWords_10 rfl ?_
    refine lv_goto (tgt := 21) hx hb dX0_inWords_11 (by decide) ?_
    refine lv_lconst (v := 1) hx hb dX0_inWords_21 (by decide) ?_
    refine lv_land hx hb dX0_inWords_22 ?_
    refine nv_el (ln_bit lo (k := S) (by omega)) ?_
    refine lv_lconst (v := 0) hx hb dX0_inWords_23 (by decide) ?_
    refine W.lcmp hx hb dX0_inWords_24 ?_
    refine nv_e (ln_cmp (lo.toBitVec.getLsbD S)) ?_
    refine nv_eqB hx hb 32 dX0_inWords_25 (by decide) (fun c_25 => ?_) (fun c_25 => ?_)
    · skip
      refine lv_iconst (v := (nI 0)) hx hb dX0_inWords_32 (by decide) ?_
      exact pi_retz hx hb hr hlocks hS (Or.inl rfl) (by rw [if_pos c_4, c_25]; rfl) dX0_inWords_33
    · skip
      refine lv_iconst (v := (nI 1)) hx hb dX0_inWords_28 (by decide) ?_
      refine lv_goto (tgt := 33) hx hb dX0_inWords_29 (by decide) ?_
      exact pi_retz hx hb hr hlocks hS (Or.inr rfl) (by rw [if_pos c_4, c_25]; rfl) dX0_inWords_33
set_option maxHeartbeats 4000000 in
set_option maxRecDepth 100000 in
/-- isDecided(set) -/
theorem mX0_isDecided (l : Launch) (dC : Nat → ClassId) (dI : Nat → Nat → Nat) (ad : Nat → Nat) (cA : Nat → ClassId) (P : Nat) (y n : Nat → Nat) (kn : Int32) (fd fc fr : Nat → Int64) (S : Nat) (hS7 : S < 128) : PI l yX0_isDecided cX0_isDecided 2 (some .boolean) ({ frames := 1, cells := 0, slots := 0, locals := 24 } : Room) [.ref (ad 0), .int (nI S)] (dC, dI) (wX ad cA P y n kn fd fc fr) (tX cA) (bI (wbit fd S)) := by
  refine PI.of (by decide) (Nat.le_of_ble_eq_true rfl) ?_
  intro p e s m below meth c hx hb hr hlocks hml hown hts hK H locs hP hS ls hl
  have hown : s.vm.findClass "CoreFinder" = some m.cls := hown
  have hl : lv_has ls 2 [(0, .ref (ad 0)), (1, .int (nI S))] := hl
  refine lv_aload_n hx hb dX0_isDecided_0 rfl (lv_at hl 0 rfl) ?_
  refine va_get (D := (dC, dI)) (ci := 0) (v := .ref (ad 3)) (C := RX0) (T := TX0) (N := 7) hx hb hts in_X0 hown hK hP 0 rfl rfl 4 (by decide) (hts _ q33) (fun _ h9 => h9) rfl dX0_isDecided_1 ?_
  refine lv_iconst (v := (nI 0)) hx hb dX0_isDecided_4 (by decide) ?_
  refine nv_lald hx hb hK hP 3 2 rfl rfl (by first | omega | exact nd_lt (by omega) | exact Nat.lt_of_le_of_lt Nat.and_le_left (by omega) | exact Nat.lt_of_le_of_lt Nat.and_le_right (by omega)) (by decide) dX0_isDecided_5 ?_
  refine lv_aload_n hx hb dX0_isDecided_6 rfl (lv_at hl 0 rfl) ?_
  refine va_get (D := (dC, dI)) (ci := 0) (v := .ref (ad 3)) (C := RX0) (T := TX0) (N := 7) hx hb hts in_X0 hown hK hP 0 rfl rfl 4 (by decide) (hts _ q33) (fun _ h9 => h9) rfl dX0_isDecided_7 ?_
  refine lv_iconst (v := (nI 1)) hx hb dX0_isDecided_10 (by decide) ?_
  refine nv_lald hx hb hK hP 3 2 rfl rfl (by first | omega | exact nd_lt (by omega) | exact Nat.lt_of_le_of_lt Nat.and_le_left (by omega) | exact Nat.lt_of_le_of_lt Nat.and_le_right (by omega)) (by decide) dX0_isDecided_11 ?_
  refine lv_iload_n hx hb dX0_isDecided_12 rfl (lv_at hl 1 rfl) ?_
  refine pi_callS (ws0 := (wX ad cA P y n kn fd fc fr)) (rest := []) ⟨hx, hb, hml, hown, hts⟩ [.long (fd 0), .long (fd 1), .int (nI S)] (mX0_inWords l dC dI (fd 0) (fd 1) S hS7) (lw_S q108 q109 q19 q110) hdX0_inWords ⟨Nat.le_of_ble_eq_true rfl, Nat.le_of_ble_eq_true rfl⟩ ⟨rfl, rfl⟩ (hK.sub [] rfl) (hP.sub [] rfl) hl.1 rfl (Nat.le_of_ble_eq_true rfl) dX0_isDecided_13 ⟨Nat.zero_le _, Nat.zero_le _⟩ hP hS (fun H locs hP hS => ?_)
  exact pi_retz hx hb hr hlocks hS (bI_01 _) rfl dX0_isDecided_16
set_option maxHeartbeats 4000000 in
set_option maxRecDepth 100000 in
/-- isCore(set) -/
theorem mX0_isCore (l : Launch) (dC : Nat → ClassId) (dI : Nat → Nat → Nat) (ad : Nat → Nat) (cA : Nat → ClassId) (P : Nat) (y n : Nat → Nat) (kn : Int32) (fd fc fr : Nat → Int64) (S : Nat) (hS7 : S < 128) : PI l yX0_isCore cX0_isCore 2 (some .boolean) ({ frames := 1, cells := 0, slots := 0, locals := 24 } : Room) [.ref (ad 0), .int (nI S)] (dC, dI) (wX ad cA P y n kn fd fc fr) (tX cA) (bI (wbit fc S)) := by
  refine PI.of (by decide) (Nat.le_of_ble_eq_true rfl) ?_
  intro p e s m below meth c hx hb hr hlocks hml hown hts hK H locs hP hS ls hl
  have hown : s.vm.findClass "CoreFinder" = some m.cls := hown
  have hl : lv_has ls 2 [(0, .ref (ad 0)), (1, .int (nI S))] := hl
  refine lv_aload_n hx hb dX0_isCore_0 rfl (lv_at hl 0 rfl) ?_
  refine va_get (D := (dC, dI)) (ci := 0) (v := .ref (ad 4)) (C := RX0) (T := TX0) (N := 7) hx hb hts in_X0 hown hK hP 0 rfl rfl 5 (by decide) (hts _ q34) (fun _ h9 => h9) rfl dX0_isCore_1 ?_
  refine lv_iconst (v := (nI 0)) hx hb dX0_isCore_4 (by decide) ?_
  refine nv_lald hx hb hK hP 4 3 rfl rfl (by first | omega | exact nd_lt (by omega) | exact Nat.lt_of_le_of_lt Nat.and_le_left (by omega) | exact Nat.lt_of_le_of_lt Nat.and_le_right (by omega)) (by decide) dX0_isCore_5 ?_
  refine lv_aload_n hx hb dX0_isCore_6 rfl (lv_at hl 0 rfl) ?_
  refine va_get (D := (dC, dI)) (ci := 0) (v := .ref (ad 4)) (C := RX0) (T := TX0) (N := 7) hx hb hts in_X0 hown hK hP 0 rfl rfl 5 (by decide) (hts _ q34) (fun _ h9 => h9) rfl dX0_isCore_7 ?_
  refine lv_iconst (v := (nI 1)) hx hb dX0_isCore_10 (by decide) ?_
  refine nv_lald hx hb hK hP 4 3 rfl rfl (by first | omega | exact nd_lt (by omega) | exact Nat.lt_of_le_of_lt Nat.and_le_left (by omega) | exact Nat.lt_of_le_of_lt Nat.and_le_right (by omega)) (by decide) dX0_isCore_11 ?_
  refine lv_iload_n hx hb dX0_isCore_12 rfl (lv_at hl 1 rfl) ?_
  refine pi_callS (ws0 := (wX ad cA P y n kn fd fc fr)) (rest := []) ⟨hx, hb, hml, hown, hts⟩ [.long (fc 0), .long (fc 1), .int (nI S)] (mX0_inWords l dC dI (fc 0) (fc 1) S hS7) (lw_S q108 q109 q19 q110) hdX0_inWords ⟨Nat.le_of_ble_eq_true rfl, Nat.le_of_ble_eq_true rfl⟩ ⟨rfl, rfl⟩ (hK.sub [] rfl) (hP.sub [] rfl) hl.1 rfl (Nat.le_of_ble_eq_true rfl) dX0_isCore_13 ⟨Nat.zero_le _, Nat.zero_le _⟩ hP hS (fun H locs hP hS => ?_)
  exact pi_retz hx hb hr hlocks hS (bI_01 _) rfl dX0_isCore_16
set_option maxHeartbeats 4000000 in
set_option maxRecDepth 100000 in
/-- isRepair(set) -/
theorem mX0_isRepair (l : Launch) (dC : Nat → ClassId) (dI : Nat → Nat → Nat) (ad : Nat → Nat) (cA : Nat → ClassId) (P : Nat) (y n : Nat → Nat) (kn : Int32) (fd fc fr : Nat → Int64) (S : Nat) (hS7 : S < 128) : PI l yX0_isRepair cX0_isRepair 2 (some .boolean) ({ frames := 1, cells := 0, slots := 0, locals := 24 } : Room) [.ref (ad 0), .int (nI S)] (dC, dI) (wX ad cA P y n kn fd fc fr) (tX cA) (bI (wbit fr S)) := by
  refine PI.of (by decide) (Nat.le_of_ble_eq_true rfl) ?_
  intro p e s m below meth c hx hb hr hlocks hml hown hts hK H locs hP hS ls hl
  have hown : s.vm.findClass "CoreFinder" = some m.cls := hown
  have hl : lv_has ls 2 [(0, .ref (ad 0)), (1, .int (nI S))] := hl
  refine lv_aload_n hx hb dX0_isRepair_0 rfl (lv_at hl 0 rfl) ?_
  refine va_get (D := (dC, dI)) (ci := 0) (v := .ref (ad 5)) (C := RX0) (T := TX0) (N := 7) hx hb hts in_X0 hown hK hP 0 rfl rfl 6 (by decide) (hts _ q35) (fun _ h9 => h9) rfl dX0_isRepair_1 ?_
  refine lv_iconst (v := (nI 0)) hx hb dX0_isRepair_4 (by decide) ?_
  refine nv_lald hx hb hK hP 5 4 rfl rfl (by first | omega | exact nd_lt (by omega) | exact Nat.lt_of_le_of_lt Nat.and_le_left (by omega) | exact Nat.lt_of_le_of_lt Nat.and_le_right (by omega)) (by decide) dX0_isRepair_5 ?_
  refine lv_aload_n hx hb dX0_isRepair_6 rfl (lv_at hl 0 rfl) ?_
  refine va_get (D := (dC, dI)) (ci := 0) (v := .ref (ad 5)) (C := RX0) (T := TX0) (N := 7) hx hb hts in_X0 hown hK hP 0 rfl rfl 6 (by decide) (hts _ q35) (fun _ h9 => h9) rfl dX0_isRepair_7 ?_
  refine lv_iconst (v := (nI 1)) hx hb dX0_isRepair_10 (by decide) ?_
  refine nv_lald hx hb hK hP 5 4 rfl rfl (by first | omega | exact nd_lt (by omega) | exact Nat.lt_of_le_of_lt Nat.and_le_left (by omega) | exact Nat.lt_of_le_of_lt Nat.and_le_right (by omega)) (by decide) dX0_isRepair_11 ?_
  refine lv_iload_n hx hb dX0_isRepair_12 rfl (lv_at hl 1 rfl) ?_
  refine pi_callS (ws0 := (wX ad cA P y n kn fd fc fr)) (rest := []) ⟨hx, hb, hml, hown, hts⟩ [.long (fr 0), .long (fr 1), .int (nI S)] (mX0_inWords l dC dI (fr 0) (fr 1) S hS7) (lw_S q108 q109 q19 q110) hdX0_inWords ⟨Nat.le_of_ble_eq_true rfl, Nat.le_of_ble_eq_true rfl⟩ ⟨rfl, rfl⟩ (hK.sub [] rfl) (hP.sub [] rfl) hl.1 rfl (Nat.le_of_ble_eq_true rfl) dX0_isRepair_13 ⟨Nat.zero_le _, Nat.zero_le _⟩ hP hS (fun H locs hP hS => ?_)
  exact pi_retz hx hb hr hlocks hS (bI_01 _) rfl dX0_isRepair_16
set_option maxHeartbeats 4000000 in
set_option maxRecDepth 100000 in
/-- undecided() -/
theorem mX0_undecided (l : Launch) (dC : Nat → ClassId) (dI : Nat → Nat → Nat) (ad : Nat → Nat) (cA : Nat → ClassId) (P : Nat) (y n : Nat → Nat) (kn : Int32) (fd fc fr : Nat → Int64) (hp7 : P < 128) : PI l yX0_undecided cX0_undecided 2 (some .int) ({ frames := 2, cells := 0, slots := 0, locals := 45 } : Room) [.ref (ad 0)] (dC, dI) (wX ad cA P y n kn fd fc fr) (tX cA) (oI (undN (undB P fd) 128)) := by
  refine PI.of (by decide) (Nat.le_of_ble_eq_true rfl) ?_
  intro p e s m below meth c hx hb hr hlocks hml hown hts hK H locs hP hS ls hl
  have hown : s.vm.findClass "CoreFinder" = some m.cls := hown
  have hl : lv_has ls 2 [(0, .ref (ad 0))] := hl
  refine lv_bipush (v := (nI 127)) hx hb dX0_undecided_0 (by decide) ?_
  refine lv_istore_n (lv' := [(1, .int (nI 127)), (0, .ref (ad 0))]) hx hb dX0_undecided_2 rfl hl (by decide) rfl (fun ls hl => ?_)
  have loop_3 : ∀ (n_ : Nat) (k : Nat), (k ≤ 128) → (∀ t, k ≤ t → t < 128 → undB P fd t = false) → k < n_ → ∀ (H : Heap) (locs : List Loc), va_P (dC, dI) vwCl (wX ad cA P y n kn fd fc fr) H → va_S (fun _ => False) s.heap H locs → ∀ (ls : Array Slot), lv_has ls 2 [(0, .ref (ad 0)), (1, .int (oI (preO k)))] → W p l e ({ frames := 2, cells := 0, slots := 0, locals := 45 } : Room) s m ([.ref (ad 0)] : List Value).toArray below meth c H locs 0 0 (QP below (oI (undN (undB P fd) 128)) ([.ref (ad 0)] : List Value).toArray s) (F0 m 3 ls []) := by
    intro n_
    induction n_ with
    | zero =>
      intro k hk hno hlt
      exact absurd hlt (Nat.not_lt_zero _)
    | succ n_ ih_3 =>
      intro k hk hno hlt_3 H locs hP hS ls hl
      refine lv_iload_n hx hb dX0_undecided_3 rfl (lv_at hl 1 rfl) ?_
      refine nv_ltO hx hb 34 (fun j hj => pre_lt hk hj) dX0_undecided_4 (by decide) (fun c_4 => ?_) (fun k_4 c_4 => ?_)
      · skip
        refine lv_iconst (v := (-1)) hx hb dX0_undecided_34 (by decide) ?_
        exact pi_ret hx hb hr hlocks hS (by rw [undN_none.mpr (fun t ht => hno t (by rw [pre_none c_4]; omega) ht)]; rfl) dX0_undecided_35
      · skip
        obtain rfl := pre_some c_4
        have hl : lv_has ls 2 [(0, .ref (ad 0)), (1, .int (nI k_4))] := hl
        refine lv_iload_n hx hb dX0_undecided_7 rfl (lv_at hl 1 rfl) ?_
        refine lv_aload_n hx hb dX0_undecided_8 rfl (lv_at hl 0 rfl) ?_
        refine va_get (D := (dC, dI)) (ci := 0) (v := .int (nI P)) (C := RX0) (T := TX0) (N := 7) hx hb hts in_X0 hown hK hP 0 rfl rfl 0 (by decide) (hts _ q29) (fun _ h9 => h9) rfl dX0_undecided_9 ?_
        refine lv_iconst (v := (-1)) hx hb dX0_undecided_12 (by decide) ?_
        refine lv_ixor hx hb dX0_undecided_13 ?_
        refine nv_andn hx hb dX0_undecided_14 ?_
        refine nv_neN hx hb 28 (by first | omega | exact nd_lt (by omega) | exact Nat.lt_of_le_of_lt Nat.and_le_left (by omega) | exact Nat.lt_of_le_of_lt Nat.and_le_right (by omega)) dX0_undecided_15 (by decide) (fun c_15 => ?_) (fun c_15 => ?_)
        · skip
          refine lv_iinc (v := (oI (preO k_4))) (lv' := [(1, .int (oI (preO k_4))), (0, .ref (ad 0))]) hx hb dX0_undecided_28 hl (k := 1) rfl (pre_dec _) (by decide) rfl (fun ls hl => ?_)
          refine lv_goto (tgt := 3) hx hb dX0_undecided_31 (by decide) ?_
          exact ih_3 k_4 (by omega) (und_step hno (by simp [undB, c_15])) (by omega) _ _ hP hS ls (lv_sub hl [1, 0] rfl)
        · skip
          refine lv_aload_n hx hb dX0_undecided_18 rfl (lv_at hl 0 rfl) ?_
          refine lv_iload_n hx hb dX0_undecided_19 rfl (lv_at hl 1 rfl) ?_
          refine pi_callV (ws0 := (wX ad cA P y n kn fd fc fr)) (rest := []) ⟨hx, hb, hml, hown, hts⟩ [.int (nI k_4)] (mX0_isDecided l dC dI ad cA P y n kn fd fc fr k_4 (by omega)) (lw_V q104 q106 qs6 q19 q107) hdX0_isDecided ⟨Nat.le_of_ble_eq_true rfl, Nat.le_of_ble_eq_true rfl⟩ ⟨rfl, rfl⟩ hK hP (q0 := 0) (ci := 0) rfl rfl rfl hl.1 rfl (Nat.le_of_ble_eq_true rfl) dX0_undecided_20 ⟨Nat.zero_le _, Nat.zero_le _⟩ hP hS (fun H locs hP hS => ?_)
          refine nv_neB hx hb 28 dX0_undecided_23 (by decide) (fun c_23 => ?_) (fun c_23 => ?_)
          · skip
            refine lv_iinc (v := (oI (preO k_4))) (lv' := [(1, .int (oI (preO k_4))), (0, .ref (ad 0))]) hx hb dX0_undecided_28 hl (k := 1) rfl (pre_dec _) (by decide) rfl (fun ls hl => ?_)
            refine lv_goto (tgt := 3) hx hb dX0_undecided_31 (by decide) ?_
            exact ih_3 k_4 (by omega) (und_step hno (by simp [undB, c_23])) (by omega) _ _ hP hS ls (lv_sub hl [1, 0] rfl)
          · skip
            refine lv_iload_n hx hb dX0_undecided_26 rfl (lv_at hl 1 rfl) ?_
            exact pi_ret hx hb hr hlocks hS (by rw [undN_some.mpr ⟨by omega, by simp [undB, c_15, c_23], fun t h1 h2 => hno t h1 h2⟩]; rfl) dX0_undecided_27
  exact loop_3 (128 + 1) 128 (Nat.le_refl _) (fun t h1 h2 => absurd h2 (by omega)) (Nat.lt_succ_self _) _ _ hP hS ls (lv_sub hl [1, 0] rfl)
end
section
/-! plain law of add, remove, grow, shrink, learn -/
set_option maxRecDepth 100000
def updN (y : Nat → Nat) (k v : Nat) : Nat → Nat := fun j => if j = k then v else y j
def addK (P a b : Nat) : Option Nat := if setB (nI a) && setB (nI b) then fndN (fun k => !P.testBit k) 7 else none
def addV (P a b : Nat) : Int32 := if setB (nI a) && setB (nI b) then (match fndN (fun k => !P.testBit k) 7 with | some k => nI k | none => -2) else -1
def addP (P a b : Nat) : Nat := match addK P a b with
  | some k => P ||| 2 ^ k
  | none => P
def addY (y : Nat → Nat) (P a b v : Nat) : Nat → Nat := match addK P a b with
  | some k => updN y k v
  | none => y
def addN (kn : Bool) (P a b : Nat) : Bool := match addK P a b with
  | some _ => false
  | none => kn
def remP (P a : Nat) : Nat := if hasX P (nI a) then nd P (2 ^ a) else P
def remN (kn : Bool) (P a : Nat) : Bool := if hasX P (nI a) then false else kn
def flw (y n : Nat → Nat) (P a b : Nat) : Bool := (setB (nI a) && setB (nI b)) && (slv y n P b a).isNone
theorem setB_lt {a : Nat} (ha : a < 2 ^ 32) (h : setB (nI a) = true) : a < 16 := by
  obtain ⟨j, hj, e⟩ := setB_ix h
  rw [(nn_eq ha (by omega)).mp e]; exact hj
theorem hasX_lt {P a : Nat} (ha : a < 2 ^ 32) (h : hasX P (nI a) = true) : a < 7 := by
  by_cases h1 : nI a < 0
  · rw [hasX_neg h1] at h; cases h
  · by_cases h2 : nI 7 ≤ nI a
    · rw [hasX_ge h2] at h; cases h
    · obtain ⟨j, hj, e⟩ := has_ix h1 h2
      rw [(nn_eq ha (by omega)).mp e]; exact hj
theorem upd_nI (y : Nat → Nat) (k v : Nat) : upd (fun j => nI (y j)) k (nI v) = fun j => nI (updN y k v j) := by
  funext j
  by_cases h : j = k
  · rw [h, pk_us]; simp [updN]
  · rw [pk_un h]; simp [updN, h]
theorem byte16 : ∀ v, v < 16 → vp_nar .byte (nI v).toInt8.toInt32 = nI v := by
  intro v hv
  rw [pk_vb]
  exact (by decide : ∀ v, v < 16 → (nI v).toInt8.toInt32 = nI v) v hv
theorem upd_b {y : Nat → Nat} {k v : Nat} (hv : v < 16) : upd (fun j => nI (y j)) k (vp_nar .byte (nI v).toInt8.toInt32) = fun j => nI (updN y k v j) := by
  rw [byte16 v hv, upd_nI]
theorem add_none1 {P a b : Nat} (h : setB (nI a) = false) : addK P a b = none ∧ addV P a b = -1 := by simp [addK, addV, h]
theorem add_none2 {P a b : Nat} (h : setB (nI b) = false) : addK P a b = none ∧ addV P a b = -1 := by simp [addK, addV, h]
theorem add_full {P a b k : Nat} (h1 : setB (nI a) = true) (h2 : setB (nI b) = true) (hk : 7 ≤ k) (h : ∀ t, t < k → P.testBit t = true) : addK P a b = none ∧ addV P a b = -2 := by
  have e : fndN (fun k => !P.testBit k) 7 = none := fndN_none.mpr (fun t ht => by rw [h t (by omega)]; rfl)
  simp [addK, addV, h1, h2, e]
theorem add_some {P a b k : Nat} (h1 : setB (nI a) = true) (h2 : setB (nI b) = true) (hk : k < 7) (h : ∀ t, t < k → P.testBit t = true) (hb : P.testBit k = false) : addK P a b = some k ∧ addV P a b = nI k := by
  have e : fndN (fun k => !P.testBit k) 7 = some k := fndN_some.mpr ⟨hk, by rw [hb]; rfl, fun t ht => by rw [h t ht]; rfl⟩
  simp [addK, addV, h1, h2, e]
theorem lt_step {p : Nat → Prop} {k : Nat} (h : ∀ t, t < k → p t) (hk : p k) : ∀ t, t < k + 1 → p t := by
  intro t ht
  rcases Nat.lt_succ_iff_lt_or_eq.mp ht with h1 | h1
  · exact h t h1
  · rw [h1]; exact hk
/-! sets -/
theorem nd_refl (a : Nat) : nd a a = 0 := nd_zero.mpr (fun _ h => h)
theorem nd_trans {a b c : Nat} (h1 : nd a b = 0) (h2 : nd b c = 0) : nd a c = 0 := nd_zero.mpr (fun i h => nd_zero.mp h2 i (nd_zero.mp h1 i h))
theorem tb_pow (k i : Nat) : (2 ^ k).testBit i = decide (k = i) := Nat.testBit_two_pow
theorem tb_or (a k i : Nat) : (a ||| 2 ^ k).testBit i = (a.testBit i || decide (k = i)) := by rw [Nat.testBit_or, tb_pow]
theorem tb_del (a k i : Nat) : (nd a (2 ^ k)).testBit i = (a.testBit i && !decide (k = i)) := by rw [tb_nd, tb_pow]
theorem hi7 {a i : Nat} (h : a < 128) (hi : 7 ≤ i) : a.testBit i = false := Nat.testBit_lt_two_pow (Nat.lt_of_lt_of_le h (Nat.pow_le_pow_right (by decide) hi : 2 ^ 7 ≤ 2 ^ i))
theorem lo7 {a i : Nat} (h : a < 128) (hb : a.testBit i = true) : i < 7 := by
  apply Nat.lt_of_not_le
  intro z
  rw [hi7 h z] at hb
  cases hb
theorem or7 {a k : Nat} (h : a < 128) (hk : k < 7) : a ||| 2 ^ k < 128 := Nat.or_lt_two_pow (n := 7) h (Nat.pow_lt_pow_right (by decide) hk)
theorem cB_anti {y n : Nat → Nat} {a b : Nat} (h : nd a b = 0) (hb : cB y n b = true) : cB y n a = true := by
  obtain ⟨v, hv, h1⟩ := cB_iff.mp hb
  exact cB_iff.mpr ⟨v, hv, aB_iff.mpr (fun k hk hs => aB_iff.mp h1 k hk (nd_zero.mp h k hs))⟩
theorem cB_antif {y n : Nat → Nat} {a b : Nat} (h : nd a b = 0) (hb : cB y n a = false) : cB y n b = false := by
  cases hc : cB y n b with
  | false => rfl
  | true => rw [cB_anti h hc] at hb; cases hb
theorem cB_0 (y n : Nat → Nat) : cB y n 0 = true := cB_iff.mpr ⟨0, by decide, aB_iff.mpr (fun k _ hs => by rw [Nat.zero_testBit] at hs; cases hs)⟩
/-! grow -/
def GrowP (y n : Nat → Nat) (P S : Nat) (fd fr : Nat → Int64) (u : (Nat → Int64) × (Nat → Int64)) : Prop :=
  ∃ G, nd S G = 0 ∧ nd G P = 0 ∧ cB y n G = true ∧ (∀ k, k < 7 → P.testBit k = true → G.testBit k = false → cB y n (G ||| 2 ^ k) = false) ∧ (∀ t, t < 128 → wbit u.2 t = (wbit fr t || decide (t = nd P G))) ∧ (∀ t, t < 128 → wbit u.1 t = (wbit fd t || decide (nd t G = 0)))
theorem grow_or {y n : Nat → Nat} {P S G k : Nat} (hSG : nd S G = 0) (hGP : nd G P = 0) (hb : P.testBit k = true) : nd S (G ||| 2 ^ k) = 0 ∧ nd (G ||| 2 ^ k) P = 0 := by
  refine ⟨nd_zero.mpr (fun i h => ?_), nd_zero.mpr (fun i h => ?_)⟩
  · rw [tb_or, nd_zero.mp hSG i h]; rfl
  · rw [tb_or, Bool.or_eq_true] at h
    rcases h with h | h
    · exact nd_zero.mp hGP i h
    · rw [← of_decide_eq_true h]; exact hb
theorem grow_yes {y n : Nat → Nat} {P G k : Nat} (hmx : ∀ t, t < k → P.testBit t = true → G.testBit t = false → cB y n (G ||| 2 ^ t) = false) : ∀ t, t < k + 1 → P.testBit t = true → (G ||| 2 ^ k).testBit t = false → cB y n (G ||| 2 ^ k ||| 2 ^ t) = false := by
  intro t ht hp hg
  rw [tb_or, Bool.or_eq_false_iff] at hg
  have hne : k ≠ t := of_decide_eq_false hg.2
  refine cB_antif (nd_zero.mpr (fun i h => ?_)) (hmx t (by omega) hp hg.1)
  rw [tb_or] at h
  rw [tb_or, tb_or]
  revert h
  cases G.testBit i <;> cases decide (k = i) <;> cases decide (t = i) <;> simp
theorem grow_no {y n : Nat → Nat} {P G k : Nat} (hmx : ∀ t, t < k → P.testBit t = true → G.testBit t = false → cB y n (G ||| 2 ^ t) = false) (h : P.testBit k = true → G.testBit k = false → cB y n (G ||| 2 ^ k) = false) : ∀ t, t < k + 1 → P.testBit t = true → G.testBit t = false → cB y n (G ||| 2 ^ t) = false := lt_step hmx h
theorem set_step {fd fd1 : Nat → Int64} {k : Nat} {b : Nat → Bool} (hk : k < 128) (hf : ∀ t, t < 128 → wbit fd1 t = (wbit fd t || (decide (t < k) && b t))) (h : b k = true) : ∀ t, t < 128 → wbit (setW fd1 k) t = (wbit fd t || (decide (t < k + 1) && b t)) := by
  intro t ht
  rw [wbit_set hk ht, hf t ht]
  by_cases e : t = k
  · subst e
    simp [h]
  · have e1 : decide (t < k + 1) = decide (t < k) := decide_eq_decide.mpr (by omega)
    rw [e1, decide_eq_false e, Bool.or_false]
theorem keep_step {fd fd1 : Nat → Int64} {k : Nat} {b : Nat → Bool} (hf : ∀ t, t < 128 → wbit fd1 t = (wbit fd t || (decide (t < k) && b t))) (h : b k = false) : ∀ t, t < 128 → wbit fd1 t = (wbit fd t || (decide (t < k + 1) && b t)) := by
  intro t ht
  rw [hf t ht]
  by_cases e : t = k
  · subst e
    simp [h]
  · have e1 : decide (t < k + 1) = decide (t < k) := decide_eq_decide.mpr (by omega)
    rw [e1]
theorem set_end {fd fd1 : Nat → Int64} {k : Nat} {b : Nat → Bool} (hk : 128 ≤ k) (hf : ∀ t, t < 128 → wbit fd1 t = (wbit fd t || (decide (t < k) && b t))) : ∀ t, t < 128 → wbit fd1 t = (wbit fd t || b t) := by
  intro t ht
  rw [hf t ht, decide_eq_true (show t < k by omega), Bool.true_and]
/-! shrink -/
def ShrinkP (y n : Nat → Nat) (S : Nat) (fd fc : Nat → Int64) (u : (Nat → Int64) × (Nat → Int64)) : Prop :=
  ∃ G, nd G S = 0 ∧ cB y n G = false ∧ (∀ k, k < 7 → G.testBit k = true → cB y n (nd G (2 ^ k)) = true) ∧ (∀ t, t < 128 → wbit u.2 t = (wbit fc t || decide (t = G))) ∧ (∀ t, t < 128 → wbit u.1 t = (wbit fd t || decide (nd G t = 0)))
theorem nd_sub (a b : Nat) : nd (nd a b) a = 0 := nd_zero.mpr (fun i h => by
  rw [tb_nd, Bool.and_eq_true] at h
  exact h.1)
theorem shrink_yes {y n : Nat → Nat} {G k : Nat} (hmn : ∀ t, t < k → G.testBit t = true → cB y n (nd G (2 ^ t)) = true) : ∀ t, t < k + 1 → (nd G (2 ^ k)).testBit t = true → cB y n (nd (nd G (2 ^ k)) (2 ^ t)) = true := by
  intro t ht hg
  rw [tb_del, Bool.and_eq_true] at hg
  have hne : k ≠ t := fun z => by rw [decide_eq_true z] at hg; cases hg.2
  refine cB_anti (nd_zero.mpr (fun i h => ?_)) (hmn t (by omega) hg.1)
  rw [tb_del, tb_del] at h
  rw [tb_del]
  revert h
  cases G.testBit i <;> cases decide (k = i) <;> cases decide (t = i) <;> simp
/-! learn -/
def Good (y n : Nat → Nat) (P : Nat) (fc fr : Nat → Int64) : Prop := ∀ t, t < 128 → wbit fc t = coreB y n P t ∧ wbit fr t = repB y n P t
def LInv (y n : Nat → Nat) (P : Nat) (fd fc fr : Nat → Int64) (r : Nat) : Prop :=
  (∀ t, t < 128 → wbit fc t = true → coreB y n P t = true) ∧ (∀ t, t < 128 → wbit fr t = true → repB y n P t = true) ∧
  (∀ t, t < 128 → nd t P = 0 → wbit fd t = true → (∃ c, c < 128 ∧ wbit fc c = true ∧ nd c t = 0) ∨ (∃ q, q < 128 ∧ wbit fr q = true ∧ nd t (nd P q) = 0)) ∧
  (∀ t, t < 128 → 128 ≤ t + r → nd t P = 0 → wbit fd t = true)
theorem coreB_iff {y n : Nat → Nat} {P t : Nat} : coreB y n P t = true ↔ nd t P = 0 ∧ cB y n t = false ∧ ∀ k, k < 7 → t.testBit k = true → cB y n (nd t (2 ^ k)) = true := by
  simp only [coreB, Bool.and_eq_true, beq_iff_eq, Bool.not_eq_true', allN_iff, Bool.or_eq_true]
  constructor
  · rintro ⟨⟨h1, h2⟩, h3⟩
    refine ⟨h1, h2, fun k hk hb => ?_⟩
    rcases h3 k hk with h | h
    · rw [hb] at h; cases h
    · exact h
  · rintro ⟨h1, h2, h3⟩
    refine ⟨⟨h1, h2⟩, fun k hk => ?_⟩
    cases hb : t.testBit k with
    | false => exact Or.inl rfl
    | true => exact Or.inr (h3 k hk hb)
theorem repB_iff {y n : Nat → Nat} {P t : Nat} : repB y n P t = true ↔ nd t P = 0 ∧ cB y n (nd P t) = true ∧ ∀ k, k < t → nd k t = 0 → cB y n (nd P k) = false := by
  simp only [repB, Bool.and_eq_true, beq_iff_eq, Bool.not_eq_true', allN_iff, Bool.or_eq_true, bne_iff_ne]
  constructor
  · rintro ⟨⟨h1, h2⟩, h3⟩
    refine ⟨h1, h2, fun k hk hb => ?_⟩
    rcases h3 k hk with h | h
    · exact absurd hb h
    · exact h
  · rintro ⟨h1, h2, h3⟩
    refine ⟨⟨h1, h2⟩, fun k hk => ?_⟩
    by_cases hb : nd k t = 0
    · exact Or.inr (h3 k hk hb)
    · exact Or.inl hb
/-- a proper subset lacks an element -/
theorem sub_lack {a b : Nat} (h : nd a b = 0) (hne : a ≠ b) : ∃ i, b.testBit i = true ∧ a.testBit i = false := by
  apply Classical.byContradiction
  intro hc
  apply hne
  apply Nat.eq_of_testBit_eq
  intro i
  cases hb : b.testBit i with
  | false =>
    cases ha : a.testBit i with
    | false => rfl
    | true => rw [nd_zero.mp h i ha] at hb; cases hb
  | true =>
    cases ha : a.testBit i with
    | true => rfl
    | false => exact absurd ⟨i, hb, ha⟩ hc
theorem sub_le {a b : Nat} (h : nd a b = 0) : a ≤ b := Nat.le_of_testBit (fun i hi => nd_zero.mp h i hi)
theorem nd_nd {P q : Nat} (h : nd q P = 0) : nd P (nd P q) = q := by
  apply Nat.eq_of_testBit_eq
  intro i
  rw [tb_nd, tb_nd]
  have := nd_zero.mp h i
  revert this
  cases P.testBit i <;> cases q.testBit i <;> simp
theorem linv_end {y n : Nat → Nat} {P r : Nat} {fd fc fr : Nat → Int64} (hp : P < 128) (h : LInv y n P fd fc fr r) (ha : ∀ t, t < 128 → nd t P = 0 → wbit fd t = true) : Good y n P fc fr := by
  obtain ⟨h1, h2, h3, -⟩ := h
  intro t ht
  constructor
  · cases hc : coreB y n P t with
    | false =>
      cases hw : wbit fc t with
      | false => rfl
      | true => rw [h1 t ht hw] at hc; cases hc
    | true =>
      obtain ⟨a, b, c⟩ := coreB_iff.mp hc
      rcases h3 t ht a (ha t ht a) with ⟨q, hq, hw, hs⟩ | ⟨q, hq, hw, hs⟩
      · by_cases e : q = t
        · rw [← e]; exact hw
        · obtain ⟨i, hi1, hi2⟩ := sub_lack hs e
          have hcq := (coreB_iff.mp (h1 q hq hw)).2.1
          have hci := c i (lo7 ht hi1) hi1
          have : cB y n q = true := cB_anti (nd_zero.mpr (fun j hj => by
            rw [tb_del, nd_zero.mp hs j hj]
            by_cases e2 : i = j
            · rw [← e2, hi2] at hj; cases hj
            · simp [e2])) hci
          rw [hcq] at this; cases this
      · have := cB_anti hs (repB_iff.mp (h2 q hq hw)).2.1
        rw [b] at this; cases this
  · cases hc : repB y n P t with
    | false =>
      cases hw : wbit fr t with
      | false => rfl
      | true => rw [h2 t ht hw] at hc; cases hc
    | true =>
      obtain ⟨a, b, c⟩ := repB_iff.mp hc
      have hlt : nd P t < 128 := nd_lt hp
      rcases h3 (nd P t) hlt (nd_sub P t) (ha _ hlt (nd_sub P t)) with ⟨q, hq, hw, hs⟩ | ⟨q, hq, hw, hs⟩
      · have h5 := (coreB_iff.mp (h1 q hq hw)).2.1
        rw [cB_anti hs b] at h5; cases h5
      · obtain ⟨a2, b2, c2⟩ := repB_iff.mp (h2 q hq hw)
        have hqt : nd q t = 0 := by
          apply nd_zero.mpr
          intro i hi
          cases hti : t.testBit i with
          | true => rfl
          | false =>
            have h6 : (nd P t).testBit i = true := by rw [tb_nd, hti, nd_zero.mp a2 i hi]; rfl
            have h7 := nd_zero.mp hs i h6
            rw [tb_nd, hi, Bool.not_true, Bool.and_false] at h7
            cases h7
        by_cases e : q = t
        · rw [← e]; exact hw
        · have hlt2 : q < t := by have := sub_le hqt; omega
          have h8 := c q hlt2 hqt
          rw [b2] at h8; cases h8
theorem linv_none {y n : Nat → Nat} {P r : Nat} {fd fc fr : Nat → Int64} (hp : P < 128) (h : LInv y n P fd fc fr r) (hu : undN (undB P fd) 128 = none) : Good y n P fc fr := by
  refine linv_end hp h (fun t ht hs => ?_)
  have := undN_none.mp hu t ht
  simp only [undB, hs, beq_self_eq_true, Bool.true_and, Bool.not_eq_false'] at this
  exact this
theorem linv_full {y n : Nat → Nat} {P r : Nat} {fd fc fr : Nat → Int64} (hp : P < 128) (h : LInv y n P fd fc fr r) (hr : 128 ≤ r) : Good y n P fc fr := linv_end hp h (fun t ht hs => h.2.2.2 t ht (by omega) hs)
theorem und_some {P S : Nat} {fd : Nat → Int64} (hu : undN (undB P fd) 128 = some S) : S < 128 ∧ nd S P = 0 ∧ wbit fd S = false ∧ ∀ t, S < t → t < 128 → nd t P = 0 → wbit fd t = true := by
  obtain ⟨a, b, c⟩ := undN_some.mp hu
  simp only [undB, Bool.and_eq_true, beq_iff_eq, Bool.not_eq_true'] at b
  refine ⟨a, b.1, b.2, fun t h1 h2 h3 => ?_⟩
  have := c t h1 h2
  simp only [undB, h3, beq_self_eq_true, Bool.true_and, Bool.not_eq_false'] at this
  exact this
theorem linv_seed {P r S : Nat} {fd : Nat → Int64} (hu : undN (undB P fd) 128 = some S) (h4 : ∀ t, t < 128 → 128 ≤ t + r → nd t P = 0 → wbit fd t = true) {fd' : Nat → Int64} (hk : ∀ t, t < 128 → wbit fd t = true → wbit fd' t = true) (hS : wbit fd' S = true) : ∀ t, t < 128 → 128 ≤ t + (r + 1) → nd t P = 0 → wbit fd' t = true := by
  obtain ⟨a, b, c, d⟩ := und_some hu
  intro t ht h1 h2
  by_cases h3 : 128 ≤ t + r
  · exact hk t ht (h4 t ht h3 h2)
  · have hSr : ¬ 128 ≤ S + r := fun z => by rw [h4 S a z b] at c; cases c
    by_cases h5 : S < t
    · exact hk t ht (d t h5 ht h2)
    · rw [show t = S by omega]; exact hS
theorem linv_grow {y n : Nat → Nat} {P r S : Nat} {fd fc fr : Nat → Int64} {u : (Nat → Int64) × (Nat → Int64)} (hp : P < 128) (h : LInv y n P fd fc fr r) (hu : undN (undB P fd) 128 = some S) (hg : GrowP y n P S fd fr u) : LInv y n P u.1 fc u.2 (r + 1) := by
  obtain ⟨h1, h2, h3, h4⟩ := h
  obtain ⟨G, g1, g2, g3, g4, g5, g6⟩ := hg
  have hG : G < 128 := by have := sub_le g2; omega
  have hq : nd P G < 128 := nd_lt hp
  have hS := und_some hu
  refine ⟨h1, ?_, ?_, ?_⟩
  · intro t ht hw
    rw [g5 t ht, Bool.or_eq_true] at hw
    rcases hw with hw | hw
    · exact h2 t ht hw
    · rw [of_decide_eq_true hw]
      refine repB_iff.mpr ⟨nd_sub P G, by rw [nd_nd g2]; exact g3, fun k hk hs => ?_⟩
      obtain ⟨i, hi1, hi2⟩ := sub_lack hs (by omega)
      rw [tb_nd, Bool.and_eq_true, Bool.not_eq_true'] at hi1
      refine cB_antif (nd_zero.mpr (fun j hj => ?_)) (g4 i (lo7 hp hi1.1) hi1.1 hi1.2)
      rw [tb_or, Bool.or_eq_true] at hj
      rw [tb_nd]
      rcases hj with hj | hj
      · rw [nd_zero.mp g2 j hj]
        cases hkj : k.testBit j with
        | false => rfl
        | true =>
          have := nd_zero.mp hs j hkj
          rw [tb_nd, hj, Bool.not_true, Bool.and_false] at this
          cases this
      · rw [← of_decide_eq_true hj, hi1.1, hi2]; rfl
  · intro t ht hs hw
    rw [g6 t ht, Bool.or_eq_true] at hw
    rcases hw with hw | hw
    · rcases h3 t ht hs hw with h5 | ⟨q, hq2, hw2, hs2⟩
      · exact Or.inl h5
      · exact Or.inr ⟨q, hq2, by rw [g5 q hq2, hw2]; rfl, hs2⟩
    · refine Or.inr ⟨nd P G, hq, by rw [g5 _ hq, decide_eq_true rfl, Bool.or_true], ?_⟩
      rw [nd_nd g2]
      exact of_decide_eq_true hw
  · refine linv_seed hu h4 (fun t ht hw => by rw [g6 t ht, hw]; rfl) ?_
    rw [g6 S hS.1, decide_eq_true g1, Bool.or_true]
theorem linv_shrink {y n : Nat → Nat} {P r S : Nat} {fd fc fr : Nat → Int64} {u : (Nat → Int64) × (Nat → Int64)} (h : LInv y n P fd fc fr r) (hu : undN (undB P fd) 128 = some S) (hg : ShrinkP y n S fd fc u) : LInv y n P u.1 u.2 fr (r + 1) := by
  obtain ⟨h1, h2, h3, h4⟩ := h
  obtain ⟨G, g1, g3, g4, g5, g6⟩ := hg
  have hS := und_some hu
  have hG : G < 128 := by have := sub_le g1; omega
  refine ⟨?_, h2, ?_, ?_⟩
  · intro t ht hw
    rw [g5 t ht, Bool.or_eq_true] at hw
    rcases hw with hw | hw
    · exact h1 t ht hw
    · rw [of_decide_eq_true hw]
      exact coreB_iff.mpr ⟨nd_trans g1 hS.2.1, g3, g4⟩
  · intro t ht hs hw
    rw [g6 t ht, Bool.or_eq_true] at hw
    rcases hw with hw | hw
    · rcases h3 t ht hs hw with ⟨q, hq2, hw2, hs2⟩ | h5
      · exact Or.inl ⟨q, hq2, by rw [g5 q hq2, hw2]; rfl, hs2⟩
      · exact Or.inr h5
    · exact Or.inl ⟨G, hG, by rw [g5 _ hG, decide_eq_true rfl, Bool.or_true], of_decide_eq_true hw⟩
  · refine linv_seed hu h4 (fun t ht hw => by rw [g6 t ht, hw]; rfl) ?_
    rw [g6 S hS.1, decide_eq_true g1, Bool.or_true]
theorem wbit_0 {f : Nat → Int64} (h0 : f 0 = 0) (h1 : f 1 = 0) (t : Nat) : wbit f t = false := by
  unfold wbit
  rw [h0, h1]
  split <;> exact BitVec.getLsbD_zero
theorem linv_0 {y n : Nat → Nat} {P : Nat} {fd fc fr : Nat → Int64} (h : ∀ w, w < 2 → fd w = 0 ∧ fc w = 0 ∧ fr w = 0) : LInv y n P fd fc fr 0 := by
  have a := h 0 (by decide)
  have b := h 1 (by decide)
  refine ⟨fun t _ z => ?_, fun t _ z => ?_, fun t _ _ z => ?_, fun t ht z => absurd z (by omega)⟩
  · rw [wbit_0 a.2.1 b.2.1] at z; cases z
  · rw [wbit_0 a.2.2 b.2.2] at z; cases z
  · rw [wbit_0 a.1 b.1] at z; cases z
theorem zero_step {fd fc fr : Nat → Int64} {k : Nat} (h : ∀ w, w < k → fd w = 0 ∧ fc w = 0 ∧ fr w = 0) : ∀ w, w < k + 1 → vp_updL fd k 0 w = 0 ∧ vp_updL fc k 0 w = 0 ∧ vp_updL fr k 0 w = 0 := by
  intro w hw
  by_cases e : w = k
  · rw [e, pk_uLs, pk_uLs, pk_uLs]; exact ⟨rfl, rfl, rfl⟩
  · rw [pk_uLn e, pk_uLn e, pk_uLn e]; exact h w (by omega)
/-! counts -/
theorem cnt_t {f : Nat → Bool} {k : Nat} (h : f k = true) : cntN f k + 1 = cntN f (k + 1) := by simp [cntN, h]
theorem cnt_f {f : Nat → Bool} {k : Nat} (h : f k = false) : cntN f k + 0 = cntN f (k + 1) := by simp [cntN, h]
theorem cnt_f' {f : Nat → Bool} {k : Nat} (h : f k = false) : cntN f k = cntN f (k + 1) := by simp [cntN, h]
theorem or_t {f : Nat → Bool} {k : Nat} (h : f k = true) : orN f k ||| k = orN f (k + 1) := by simp [orN, h]
theorem or_f {f : Nat → Bool} {k : Nat} (h : f k = false) : orN f k ||| 0 = orN f (k + 1) := by simp [orN, h]
theorem or_f' {f : Nat → Bool} {k : Nat} (h : f k = false) : orN f k = orN f (k + 1) := by simp [orN, h]
theorem and_t {P : Nat} {f : Nat → Bool} {k : Nat} (h : f k = true) : andN P f k &&& k = andN P f (k + 1) := by simp [andN, h]
theorem and_f' {P : Nat} {f : Nat → Bool} {k : Nat} (h : f k = false) : andN P f k = andN P f (k + 1) := by simp [andN, h]
theorem andN_lt {P : Nat} (hp : P < 128) (f : Nat → Bool) (k : Nat) : andN P f k < 128 := by
  induction k with
  | zero => exact hp
  | succ k ih =>
    simp only [andN]
    split
    · exact Nat.lt_of_le_of_lt Nat.and_le_left ih
    · exact ih
theorem and_f {P : Nat} (hp : P < 128) {f : Nat → Bool} {k : Nat} (h : f k = false) : andN P f k &&& 127 = andN P f (k + 1) := by
  rw [← and_f' h]
  exact (Nat.and_two_pow_sub_one_eq_mod _ 7).trans (Nat.mod_eq_of_lt (andN_lt hp f k))
theorem orN_lt {f : Nat → Bool} {k : Nat} (hk : k ≤ 128) : orN f k < 128 := by
  induction k with
  | zero => exact (by decide : 0 < 128)
  | succ k ih =>
    simp only [orN]
    split
    · exact Nat.or_lt_two_pow (n := 7) (ih (by omega)) (by omega)
    · exact ih (by omega)
theorem minN_lt {f : Nat → Bool} {k j : Nat} (h : minN f k = some j) : j < 2 ^ 31 := by
  induction k with
  | zero => cases h
  | succ k ih =>
    simp only [minN] at h
    split at h
    · cases h
      have := on7_le k 7
      omega
    · exact ih h
theorem mtX_le (P : Nat) (f : Nat → Bool) (k : Nat) : mtX P f k ≤ 7 := by
  induction k with
  | zero => exact Nat.zero_le _
  | succ k ih =>
    simp only [mtX]
    split
    · exact on7_le _ 7
    · exact ih
theorem mtM_le (f : Nat → Bool) (k : Nat) : mtM f k ≤ 7 := by
  induction k with
  | zero => exact Nat.zero_le _
  | succ k ih =>
    simp only [mtM]
    split
    · exact on7_le _ 7
    · exact ih
theorem nth_hit {f : Nat → Bool} {x k : Nat} (hk : k < 128) (hno : ∀ t, t < k → nthB f x t = false) (h : f k = true) (e : cntN f k = x) : fndN (nthB f x) 128 = some k := fndN_some.mpr ⟨hk, by simp [nthB, h, e], hno⟩
theorem nth_miss {f : Nat → Bool} {x k : Nat} (hk : 128 ≤ k) (hno : ∀ t, t < k → nthB f x t = false) : fndN (nthB f x) 128 = none := fndN_none.mpr (fun t ht => hno t (by omega))
end
section
set_option maxRecDepth 100000
set_option maxHeartbeats 4000000 in
set_option maxRecDepth 100000 in
/-- clauses() -/
theorem mX0_clauses (l : Launch) (dC : Nat → ClassId) (dI : Nat → Nat → Nat) (ad : Nat → Nat) (cA : Nat → ClassId) (P : Nat) (y n : Nat → Nat) (kn : Int32) (fd fc fr : Nat → Int64)  : PI l yX0_clauses cX0_clauses 1 (some .int) ({ frames := 0, cells := 0, slots := 0, locals := 0 } : Room) [.ref (ad 0)] (dC, dI) (wX ad cA P y n kn fd fc fr) (tX cA) (nI P) := by
  refine PI.of (by decide) (Nat.le_of_ble_eq_true rfl) ?_
  intro p e s m below meth c hx hb hr hlocks hml hown hts hK H locs hP hS ls hl
  have hown : s.vm.findClass "CoreFinder" = some m.cls := hown
  have hl : lv_has ls 1 [(0, .ref (ad 0))] := hl
  refine lv_aload_n hx hb dX0_clauses_0 rfl (lv_at hl 0 rfl) ?_
  refine va_get (D := (dC, dI)) (ci := 0) (v := .int (nI P)) (C := RX0) (T := TX0) (N := 7) hx hb hts in_X0 hown hK hP 0 rfl rfl 0 (by decide) (hts _ q29) (fun _ h9 => h9) rfl dX0_clauses_1 ?_
  exact pi_ret hx hb hr hlocks hS rfl dX0_clauses_4
set_option maxHeartbeats 4000000 in
set_option maxRecDepth 100000 in
/-- consistent(set) -/
theorem mX0_consistent (l : Launch) (dC : Nat → ClassId) (dI : Nat → Nat → Nat) (ad : Nat → Nat) (cA : Nat → ClassId) (P : Nat) (y n : Nat → Nat) (kn : Int32) (fd fc fr : Nat → Int64) (x : Nat) (hy : ∀ k, y k < 16) (hn : ∀ k, n k < 16) : PI l yX0_consistent cX0_consistent 2 (some .boolean) ({ frames := 3, cells := 0, slots := 0, locals := 76 } : Room) [.ref (ad 0), .int (nI x)] (dC, dI) (wX ad cA P y n kn fd fc fr) (tX cA) (bI (cB y n (x &&& P))) := by
  refine PI.of (by decide) (Nat.le_of_ble_eq_true rfl) ?_
  intro p e s m below meth c hx hb hr hlocks hml hown hts hK H locs hP hS ls hl
  have hown : s.vm.findClass "CoreFinder" = some m.cls := hown
  have hl : lv_has ls 2 [(0, .ref (ad 0)), (1, .int (nI x))] := hl
  refine lv_aload_n hx hb dX0_consistent_0 rfl (lv_at hl 0 rfl) ?_
  refine lv_iload_n hx hb dX0_consistent_1 rfl (lv_at hl 1 rfl) ?_
  refine lv_aload_n hx hb dX0_consistent_2 rfl (lv_at hl 0 rfl) ?_
  refine va_get (D := (dC, dI)) (ci := 0) (v := .int (nI P)) (C := RX0) (T := TX0) (N := 7) hx hb hts in_X0 hown hK hP 0 rfl rfl 0 (by decide) (hts _ q29) (fun _ h9 => h9) rfl dX0_consistent_3 ?_
  refine nv_and hx hb dX0_consistent_6 ?_
  refine pi_callV (ws0 := (wX ad cA P y n kn fd fc fr)) (rest := []) ⟨hx, hb, hml, hown, hts⟩ [.int (nI (x &&& P))] (mX0_holdsTogether l dC dI ad cA P y n kn fd fc fr (x &&& P) hy hn) (lw_V q76 q78 qs1 q19 q79) hdX0_holdsTogether ⟨Nat.le_of_ble_eq_true rfl, Nat.le_of_ble_eq_true rfl⟩ ⟨rfl, rfl⟩ hK hP (q0 := 0) (ci := 0) rfl rfl rfl hl.1 rfl (Nat.le_of_ble_eq_true rfl) dX0_consistent_7 ⟨Nat.zero_le _, Nat.zero_le _⟩ hP hS (fun H locs hP hS => ?_)
  exact pi_retz hx hb hr hlocks hS (bI_01 _) rfl dX0_consistent_10
set_option maxHeartbeats 4000000 in
set_option maxRecDepth 100000 in
/-- witness(set) -/
theorem mX0_witness (l : Launch) (dC : Nat → ClassId) (dI : Nat → Nat → Nat) (ad : Nat → Nat) (cA : Nat → ClassId) (P : Nat) (y n : Nat → Nat) (kn : Int32) (fd fc fr : Nat → Int64) (x : Nat) (hy : ∀ k, y k < 16) (hn : ∀ k, n k < 16) : PI l yX0_witness cX0_witness 2 (some .int) ({ frames := 2, cells := 0, slots := 0, locals := 55 } : Room) [.ref (ad 0), .int (nI x)] (dC, dI) (wX ad cA P y n kn fd fc fr) (tX cA) (oI (slv y n (x &&& P) 0 0)) := by
  refine PI.of (by decide) (Nat.le_of_ble_eq_true rfl) ?_
  intro p e s m below meth c hx hb hr hlocks hml hown hts hK H locs hP hS ls hl
  have hown : s.vm.findClass "CoreFinder" = some m.cls := hown
  have hl : lv_has ls 2 [(0, .ref (ad 0)), (1, .int (nI x))] := hl
  refine lv_aload_n hx hb dX0_witness_0 rfl (lv_at hl 0 rfl) ?_
  refine lv_iload_n hx hb dX0_witness_1 rfl (lv_at hl 1 rfl) ?_
  refine lv_aload_n hx hb dX0_witness_2 rfl (lv_at hl 0 rfl) ?_
  refine va_get (D := (dC, dI)) (ci := 0) (v := .int (nI P)) (C := RX0) (T := TX0) (N := 7) hx hb hts in_X0 hown hK hP 0 rfl rfl 0 (by decide) (hts _ q29) (fun _ h9 => h9) rfl dX0_witness_3 ?_
  refine nv_and hx hb dX0_witness_6 ?_
  refine lv_iconst (v := (nI 0)) hx hb dX0_witness_7 (by decide) ?_
  refine lv_iconst (v := (nI 0)) hx hb dX0_witness_8 (by decide) ?_
  refine pi_callV (ws0 := (wX ad cA P y n kn fd fc fr)) (rest := []) ⟨hx, hb, hml, hown, hts⟩ [.int (nI (x &&& P)), .int (nI 0), .int (nI 0)] (mX0_solve l dC dI ad cA P y n kn fd fc fr (x &&& P) 0 0 hy hn (by decide) (by decide)) (lw_V q80 q82 qs2 q19 q83) hdX0_solve ⟨Nat.le_of_ble_eq_true rfl, Nat.le_of_ble_eq_true rfl⟩ ⟨rfl, rfl⟩ hK hP (q0 := 0) (ci := 0) rfl rfl rfl hl.1 rfl (Nat.le_of_ble_eq_true rfl) dX0_witness_9 ⟨Nat.zero_le _, Nat.zero_le _⟩ hP hS (fun H locs hP hS => ?_)
  exact pi_ret hx hb hr hlocks hS rfl dX0_witness_12
set_option maxHeartbeats 4000000 in
set_option maxRecDepth 100000 in
/-- follows(pos, neg) -/
theorem mX0_follows (l : Launch) (dC : Nat → ClassId) (dI : Nat → Nat → Nat) (ad : Nat → Nat) (cA : Nat → ClassId) (P : Nat) (y n : Nat → Nat) (kn : Int32) (fd fc fr : Nat → Int64) (a b : Nat) (hy : ∀ k, y k < 16) (hn : ∀ k, n k < 16) (ha : a < 2 ^ 32) (hb2 : b < 2 ^ 32) : PI l yX0_follows cX0_follows 3 (some .boolean) ({ frames := 2, cells := 0, slots := 0, locals := 55 } : Room) [.ref (ad 0), .int (nI a), .int (nI b)] (dC, dI) (wX ad cA P y n kn fd fc fr) (tX cA) (bI (flw y n P a b)) := by
  refine PI.of (by decide) (Nat.le_of_ble_eq_true rfl) ?_
  intro p e s m below meth c hx hb hr hlocks hml hown hts hK H locs hP hS ls hl
  have hown : s.vm.findClass "CoreFinder" = some m.cls := hown
  have hl : lv_has ls 3 [(0, .ref (ad 0)), (1, .int (nI a)), (2, .int (nI b))] := hl
  refine lv_iload_n hx hb dX0_follows_0 rfl (lv_at hl 1 rfl) ?_
  refine pi_callS (ws0 := (wX ad cA P y n kn fd fc fr)) (rest := []) ⟨hx, hb, hml, hown, hts⟩ [.int (nI a)] (mX0_isSet l dC dI (nI a)) (lw_S q57 q58 q19 q59) hdX0_isSet ⟨Nat.le_of_ble_eq_true rfl, Nat.le_of_ble_eq_true rfl⟩ ⟨rfl, rfl⟩ (hK.sub [] rfl) (hP.sub [] rfl) hl.1 rfl (Nat.le_of_ble_eq_true rfl) dX0_follows_1 ⟨Nat.zero_le _, Nat.zero_le _⟩ hP hS (fun H locs hP hS => ?_)
  refine nv_eqB hx hb 14 dX0_follows_4 (by decide) (fun c_4 => ?_) (fun c_4 => ?_)
  · skip
    refine lv_iconst (v := (nI 0)) hx hb dX0_follows_14 (by decide) ?_
    exact pi_retz hx hb hr hlocks hS (Or.inl rfl) (by simp [flw, c_4]; rfl) dX0_follows_15
  · skip
    refine lv_iload_n hx hb dX0_follows_7 rfl (lv_at hl 2 rfl) ?_
    refine pi_callS (ws0 := (wX ad cA P y n kn fd fc fr)) (rest := []) ⟨hx, hb, hml, hown, hts⟩ [.int (nI b)] (mX0_isSet l dC dI (nI b)) (lw_S q57 q58 q19 q59) hdX0_isSet ⟨Nat.le_of_ble_eq_true rfl, Nat.le_of_ble_eq_true rfl⟩ ⟨rfl, rfl⟩ (hK.sub [] rfl) (hP.sub [] rfl) hl.1 rfl (Nat.le_of_ble_eq_true rfl) dX0_follows_8 ⟨Nat.zero_le _, Nat.zero_le _⟩ hP hS (fun H locs hP hS => ?_)
    refine nv_neB hx hb 16 dX0_follows_11 (by decide) (fun c_11 => ?_) (fun c_11 => ?_)
    · skip
      refine lv_aload_n hx hb dX0_follows_16 rfl (lv_at hl 0 rfl) ?_
      refine lv_aload_n hx hb dX0_follows_17 rfl (lv_at hl 0 rfl) ?_
      refine va_get (D := (dC, dI)) (ci := 0) (v := .int (nI P)) (C := RX0) (T := TX0) (N := 7) hx hb hts in_X0 hown hK hP 0 rfl rfl 0 (by decide) (hts _ q29) (fun _ h9 => h9) rfl dX0_follows_18 ?_
      refine lv_iload_n hx hb dX0_follows_21 rfl (lv_at hl 2 rfl) ?_
      refine lv_iload_n hx hb dX0_follows_22 rfl (lv_at hl 1 rfl) ?_
      refine pi_callV (ws0 := (wX ad cA P y n kn fd fc fr)) (rest := []) ⟨hx, hb, hml, hown, hts⟩ [.int (nI P), .int (nI b), .int (nI a)] (mX0_solve l dC dI ad cA P y n kn fd fc fr P b a hy hn (setB_lt hb2 c_11) (setB_lt ha c_4)) (lw_V q80 q82 qs2 q19 q83) hdX0_solve ⟨Nat.le_of_ble_eq_true rfl, Nat.le_of_ble_eq_true rfl⟩ ⟨rfl, rfl⟩ hK hP (q0 := 0) (ci := 0) rfl rfl rfl hl.1 rfl (Nat.le_of_ble_eq_true rfl) dX0_follows_23 ⟨Nat.zero_le _, Nat.zero_le _⟩ hP hS (fun H locs hP hS => ?_)
      refine nv_geO hx hb 33 (fun k hk => Nat.lt_trans (fndN_lt hk) (by decide)) dX0_follows_26 (by decide) (fun k_26 c_26 => ?_) (fun c_26 => ?_)
      · skip
        refine lv_iconst (v := (nI 0)) hx hb dX0_follows_33 (by decide) ?_
        exact pi_retz hx hb hr hlocks hS (Or.inl rfl) (by simp [flw, c_4, c_11, c_26]; rfl) dX0_follows_34
      · skip
        refine lv_iconst (v := (nI 1)) hx hb dX0_follows_29 (by decide) ?_
        refine lv_goto (tgt := 34) hx hb dX0_follows_30 (by decide) ?_
        exact pi_retz hx hb hr hlocks hS (Or.inr rfl) (by simp [flw, c_4, c_11, c_26]; rfl) dX0_follows_34
    · skip
      refine lv_iconst (v := (nI 0)) hx hb dX0_follows_14 (by decide) ?_
      exact pi_retz hx hb hr hlocks hS (Or.inl rfl) (by simp [flw, c_11]; rfl) dX0_follows_15
set_option maxHeartbeats 4000000 in
set_option maxRecDepth 100000 in
/-- add(pos, neg) -/
theorem mX0_add (l : Launch) (dC : Nat → ClassId) (dI : Nat → Nat → Nat) (ad : Nat → Nat) (cA : Nat → ClassId) (P : Nat) (y n : Nat → Nat) (kb : Bool) (fd fc fr : Nat → Int64) (a b : Nat) (ha : a < 2 ^ 32) (hb2 : b < 2 ^ 32) (sz : Nat) : MI l yX0_add cX0_add 4 (some .int) ({ frames := 1, cells := 0, slots := 0, locals := 21 } : Room) [.ref (ad 0), .int (nI a), .int (nI b)] (dC, dI) (wX ad cA P y n (bI kb) fd fc fr) (tX cA) sz (addV P a b) (fun u : Nat × (Nat → Nat) × (Nat → Nat) × Bool => u = (addP P a b, addY y P a b a, addY n P a b b, addN kb P a b)) (fun u : Nat × (Nat → Nat) × (Nat → Nat) × Bool => wX ad cA u.1 u.2.1 u.2.2.1 (bI u.2.2.2) fd fc fr) := by
  refine MI.of (by decide) (Nat.le_of_ble_eq_true rfl) ?_
  intro p e s m below meth c hx hb hr hlocks hml hown hts hK A hA H locs hP hD hS ls hl
  have hown : s.vm.findClass "CoreFinder" = some m.cls := hown
  have hl : lv_has ls 4 [(0, .ref (ad 0)), (1, .int (nI a)), (2, .int (nI b))] := hl
  refine lv_iload_n hx hb dX0_add_0 rfl (lv_at hl 1 rfl) ?_
  refine pi_callS (ws0 := (wX ad cA P y n (bI kb) fd fc fr)) (rest := []) ⟨hx, hb, hml, hown, hts⟩ [.int (nI a)] (mX0_isSet l dC dI (nI a)) (lw_S q57 q58 q19 q59) hdX0_isSet ⟨Nat.le_of_ble_eq_true rfl, Nat.le_of_ble_eq_true rfl⟩ ⟨rfl, rfl⟩ (hK.sub [] rfl) (hP.sub [] rfl) hl.1 rfl (Nat.le_of_ble_eq_true rfl) dX0_add_1 ⟨Nat.zero_le _, Nat.zero_le _⟩ hP hS (fun H locs hP hS => ?_)
  refine nv_eqB hx hb 14 dX0_add_4 (by decide) (fun c_4 => ?_) (fun c_4 => ?_)
  · skip
    refine lv_iconst (v := (-1)) hx hb dX0_add_14 (by decide) ?_
    exact mi_ret hx hb hr hlocks hS (P, y, n, kb) hP hD (by simp [addP, addY, addN, (add_none1 (P := P) (b := b) c_4).1]) (add_none1 c_4).2.symm dX0_add_15
  · skip
    refine lv_iload_n hx hb dX0_add_7 rfl (lv_at hl 2 rfl) ?_
    refine pi_callS (ws0 := (wX ad cA P y n (bI kb) fd fc fr)) (rest := []) ⟨hx, hb, hml, hown, hts⟩ [.int (nI b)] (mX0_isSet l dC dI (nI b)) (lw_S q57 q58 q19 q59) hdX0_isSet ⟨Nat.le_of_ble_eq_true rfl, Nat.le_of_ble_eq_true rfl⟩ ⟨rfl, rfl⟩ (hK.sub [] rfl) (hP.sub [] rfl) hl.1 rfl (Nat.le_of_ble_eq_true rfl) dX0_add_8 ⟨Nat.zero_le _, Nat.zero_le _⟩ hP hS (fun H locs hP hS => ?_)
    refine nv_neB hx hb 16 dX0_add_11 (by decide) (fun c_11 => ?_) (fun c_11 => ?_)
    · skip
      refine lv_iconst (v := (nI 0)) hx hb dX0_add_16 (by decide) ?_
      refine lv_istore_n (lv' := [(3, .int (nI 0)), (0, .ref (ad 0)), (1, .int (nI a)), (2, .int (nI b))]) hx hb dX0_add_17 rfl hl (by decide) rfl (fun ls hl => ?_)
      have loop_18 : ∀ (n_ : Nat) (k : Nat), (k ≤ 7) → (∀ t, t < k → P.testBit t = true) → 7 - k < n_ → ∀ (H : Heap) (locs : List Loc), va_P (dC, dI) vwCl (wX ad cA P y n (bI kb) fd fc fr) H → va_D A (wX ad cA P y n (bI kb) fd fc fr) → va_S A s.heap H locs → ∀ (ls : Array Slot), lv_has ls 4 [(0, .ref (ad 0)), (1, .int (nI a)), (2, .int (nI b)), (3, .int (nI k))] → W p l e ({ frames := 1, cells := 0, slots := 0, locals := 21 } : Room) s m ([.ref (ad 0), .int (nI a), .int (nI b)] : List Value).toArray below meth c H locs 0 0 (QI below A (dC, dI) (addV P a b) (fun u : Nat × (Nat → Nat) × (Nat → Nat) × Bool => u = (addP P a b, addY y P a b a, addY n P a b b, addN kb P a b)) (fun u : Nat × (Nat → Nat) × (Nat → Nat) × Bool => wX ad cA u.1 u.2.1 u.2.2.1 (bI u.2.2.2) fd fc fr) ([.ref (ad 0), .int (nI a), .int (nI b)] : List Value).toArray s) (F0 m 18 ls []) := by
        intro n_
        induction n_ with
        | zero =>
          intro k hk hno hlt
          exact absurd hlt (Nat.not_lt_zero _)
        | succ n_ ih_18 =>
          intro k hk hno hlt_18 H locs hP hD hS ls hl
          refine lv_iload_n hx hb dX0_add_18 rfl (lv_at hl 3 rfl) ?_
          refine lv_bipush (v := (nI 7)) hx hb dX0_add_19 (by decide) ?_
          refine nv_cgeN hx hb 73 (by first | omega | exact nd_lt (by omega) | exact Nat.lt_of_le_of_lt Nat.and_le_left (by omega) | exact Nat.lt_of_le_of_lt Nat.and_le_right (by omega)) (by first | omega | exact nd_lt (by omega) | exact Nat.lt_of_le_of_lt Nat.and_le_left (by omega) | exact Nat.lt_of_le_of_lt Nat.and_le_right (by omega)) dX0_add_21 (by decide) (fun c_21 => ?_) (fun c_21 => ?_)
          · skip
            refine lv_bipush (v := (-2)) hx hb dX0_add_73 (by decide) ?_
            exact mi_ret hx hb hr hlocks hS (P, y, n, kb) hP hD (by simp [addP, addY, addN, (add_full (P := P) c_4 c_11 c_21 hno).1]) (add_full c_4 c_11 c_21 hno).2.symm dX0_add_75
          · skip
            refine lv_aload_n hx hb dX0_add_24 rfl (lv_at hl 0 rfl) ?_
            refine lv_iload_n hx hb dX0_add_25 rfl (lv_at hl 3 rfl) ?_
            refine pi_callV (ws0 := (wX ad cA P y n (bI kb) fd fc fr)) (rest := []) ⟨hx, hb, hml, hown, hts⟩ [.int (nI k)] (mX0_has l dC dI ad cA P y n (bI kb) fd fc fr (nI k)) (lw_V q60 q62 qs0 q19 q63) hdX0_has ⟨Nat.le_of_ble_eq_true rfl, Nat.le_of_ble_eq_true rfl⟩ ⟨rfl, rfl⟩ hK hP (q0 := 0) (ci := 0) rfl rfl rfl hl.1 rfl (Nat.le_of_ble_eq_true rfl) dX0_add_26 ⟨Nat.zero_le _, Nat.zero_le _⟩ hP hS (fun H locs hP hS => ?_)
            refine nv_e (y := (bI (P.testBit k))) (by rw [hasX_nI c_21]) ?_
            refine nv_neB hx hb 67 dX0_add_29 (by decide) (fun c_29 => ?_) (fun c_29 => ?_)
            · skip
              refine lv_iinc (v := (nI (k + 1))) (lv' := [(3, .int (nI (k + 1))), (0, .ref (ad 0)), (1, .int (nI a)), (2, .int (nI b))]) hx hb dX0_add_67 hl (k := 3) rfl (nI_1 k) (by decide) rfl (fun ls hl => ?_)
              refine lv_goto (tgt := 18) hx hb dX0_add_70 (by decide) ?_
              exact ih_18 (k + 1) (by omega) (lt_step hno c_29) (by omega) _ _ hP hD hS ls (lv_sub hl [1, 2, 3, 0] rfl)
            · skip
              refine lv_aload_n hx hb dX0_add_32 rfl (lv_at hl 0 rfl) ?_
              refine lv_dup hx hb dX0_add_33 rfl ?_
              refine va_get (D := (dC, dI)) (ci := 0) (v := .int (nI P)) (C := RX0) (T := TX0) (N := 7) hx hb hts in_X0 hown hK hP 0 rfl rfl 0 (by decide) (hts _ q29) (fun _ h9 => h9) rfl dX0_add_34 ?_
              refine lv_iconst (v := (nI 1)) hx hb dX0_add_37 (by decide) ?_
              refine lv_iload_n hx hb dX0_add_38 rfl (lv_at hl 3 rfl) ?_
              refine nv_shl1 hx hb (by first | omega | exact nd_lt (by omega) | exact Nat.lt_of_le_of_lt Nat.and_le_left (by omega) | exact Nat.lt_of_le_of_lt Nat.and_le_right (by omega)) dX0_add_39 ?_
              refine nv_or hx hb dX0_add_40 ?_
              refine va_put (D := (dC, dI)) (ci := 0) (v := .int (nI (P ||| (2 ^ k)))) (ty := .int) (C := RX0) (T := TX0) (N := 7) hx hb hts in_X0 tyX0 tyX0_ok nmX0 hown hK hP hD hS 0 rfl rfl 0 (by decide) (hts _ q29) (fun _ h9 => h9) rfl (by decide +kernel) rfl rfl (Nat.le_of_ble_eq_true rfl) dX0_add_41 (fun H locs hP hD hS => ?_)
              have hP : va_P (dC, dI) vwCl (wX ad cA (P ||| (2 ^ k)) y n (bI kb) fd fc fr) H := hP
              have hD : va_D A (wX ad cA (P ||| (2 ^ k)) y n (bI kb) fd fc fr) := hD
              refine lv_aload_n hx hb dX0_add_44 rfl (lv_at hl 0 rfl) ?_
              refine va_get (D := (dC, dI)) (ci := 0) (v := .ref (ad 1)) (C := RX0) (T := TX0) (N := 7) hx hb hts in_X0 hown hK hP 0 rfl rfl 1 (by decide) (hts _ q30) (fun _ h9 => h9) rfl dX0_add_45 ?_
              refine lv_iload_n hx hb dX0_add_48 rfl (lv_at hl 3 rfl) ?_
              refine lv_iload_n hx hb dX0_add_49 rfl (lv_at hl 1 rfl) ?_
              refine lv_i2b (v := (nI a).toInt8.toInt32) hx hb dX0_add_50 rfl ?_
              refine nv_bast hx hb hK hP hD hS 1 0 rfl rfl (fun j => nI (updN y k a j)) (by first | omega | exact nd_lt (by omega) | exact Nat.lt_of_le_of_lt Nat.and_le_left (by omega) | exact Nat.lt_of_le_of_lt Nat.and_le_right (by omega)) (by decide) (upd_b (setB_lt ha c_4)) dX0_add_51 (fun H locs hP hD hS => ?_)
              have hP : va_P (dC, dI) vwCl (wX ad cA (P ||| (2 ^ k)) (updN y k a) n (bI kb) fd fc fr) H := hP
              have hD : va_D A (wX ad cA (P ||| (2 ^ k)) (updN y k a) n (bI kb) fd fc fr) := hD
              refine lv_aload_n hx hb dX0_add_52 rfl (lv_at hl 0 rfl) ?_
              refine va_get (D := (dC, dI)) (ci := 0) (v := .ref (ad 2)) (C := RX0) (T := TX0) (N := 7) hx hb hts in_X0 hown hK hP 0 rfl rfl 2 (by decide) (hts _ q31) (fun _ h9 => h9) rfl dX0_add_53 ?_
              refine lv_iload_n hx hb dX0_add_56 rfl (lv_at hl 3 rfl) ?_
              refine lv_iload_n hx hb dX0_add_57 rfl (lv_at hl 2 rfl) ?_
              refine lv_i2b (v := (nI b).toInt8.toInt32) hx hb dX0_add_58 rfl ?_
              refine nv_bast hx hb hK hP hD hS 2 1 rfl rfl (fun j => nI (updN n k b j)) (by first | omega | exact nd_lt (by omega) | exact Nat.lt_of_le_of_lt Nat.and_le_left (by omega) | exact Nat.lt_of_le_of_lt Nat.and_le_right (by omega)) (by decide) (upd_b (setB_lt hb2 c_11)) dX0_add_59 (fun H locs hP hD hS => ?_)
              have hP : va_P (dC, dI) vwCl (wX ad cA (P ||| (2 ^ k)) (updN y k a) (updN n k b) (bI kb) fd fc fr) H := hP
              have hD : va_D A (wX ad cA (P ||| (2 ^ k)) (updN y k a) (updN n k b) (bI kb) fd fc fr) := hD
              refine lv_aload_n hx hb dX0_add_60 rfl (lv_at hl 0 rfl) ?_
              refine lv_iconst (v := (nI 0)) hx hb dX0_add_61 (by decide) ?_
              refine va_put (D := (dC, dI)) (ci := 0) (v := .int (nI 0)) (ty := .boolean) (C := RX0) (T := TX0) (N := 7) hx hb hts in_X0 tyX0 tyX0_ok nmX0 hown hK hP hD hS 0 rfl rfl 3 (by decide) (hts _ q32) (fun _ h9 => h9) rfl (by decide +kernel) rfl rfl (Nat.le_of_ble_eq_true rfl) dX0_add_62 (fun H locs hP hD hS => ?_)
              have hP : va_P (dC, dI) vwCl (wX ad cA (P ||| (2 ^ k)) (updN y k a) (updN n k b) (nI 0) fd fc fr) H := hP
              have hD : va_D A (wX ad cA (P ||| (2 ^ k)) (updN y k a) (updN n k b) (nI 0) fd fc fr) := hD
              refine lv_iload_n hx hb dX0_add_65 rfl (lv_at hl 3 rfl) ?_
              exact mi_ret hx hb hr hlocks hS (P ||| 2 ^ k, updN y k a, updN n k b, false) hP hD (by simp [addP, addY, addN, (add_some (P := P) c_4 c_11 c_21 hno c_29).1]) (add_some c_4 c_11 c_21 hno c_29).2.symm dX0_add_66
      exact loop_18 (7 - 0 + 1) 0 (by omega) (fun t h => absurd h (Nat.not_lt_zero t)) (Nat.lt_succ_self _) _ _ hP hD hS ls (lv_sub hl [1, 2, 3, 0] rfl)
    · skip
      refine lv_iconst (v := (-1)) hx hb dX0_add_14 (by decide) ?_
      exact mi_ret hx hb hr hlocks hS (P, y, n, kb) hP hD (by simp [addP, addY, addN, (add_none2 (P := P) (a := a) c_11).1]) (add_none2 c_11).2.symm dX0_add_15
set_option maxHeartbeats 4000000 in
set_option maxRecDepth 100000 in
/-- remove(k) -/
theorem mX0_remove (l : Launch) (dC : Nat → ClassId) (dI : Nat → Nat → Nat) (ad : Nat → Nat) (cA : Nat → ClassId) (P : Nat) (y n : Nat → Nat) (kb : Bool) (fd fc fr : Nat → Int64) (a : Nat) (ha : a < 2 ^ 32) (sz : Nat) : MI l yX0_remove cX0_remove 2 (some .boolean) ({ frames := 1, cells := 0, slots := 0, locals := 21 } : Room) [.ref (ad 0), .int (nI a)] (dC, dI) (wX ad cA P y n (bI kb) fd fc fr) (tX cA) sz (bI (hasX P (nI a))) (fun u : Nat × Bool => u = (remP P a, remN kb P a)) (fun u : Nat × Bool => wX ad cA u.1 y n (bI u.2) fd fc fr) := by
  refine MI.of (by decide) (Nat.le_of_ble_eq_true rfl) ?_
  intro p e s m below meth c hx hb hr hlocks hml hown hts hK A hA H locs hP hD hS ls hl
  have hown : s.vm.findClass "CoreFinder" = some m.cls := hown
  have hl : lv_has ls 2 [(0, .ref (ad 0)), (1, .int (nI a))] := hl
  refine lv_aload_n hx hb dX0_remove_0 rfl (lv_at hl 0 rfl) ?_
  refine lv_iload_n hx hb dX0_remove_1 rfl (lv_at hl 1 rfl) ?_
  refine pi_callV (ws0 := (wX ad cA P y n (bI kb) fd fc fr)) (rest := []) ⟨hx, hb, hml, hown, hts⟩ [.int (nI a)] (mX0_has l dC dI ad cA P y n (bI kb) fd fc fr (nI a)) (lw_V q60 q62 qs0 q19 q63) hdX0_has ⟨Nat.le_of_ble_eq_true rfl, Nat.le_of_ble_eq_true rfl⟩ ⟨rfl, rfl⟩ hK hP (q0 := 0) (ci := 0) rfl rfl rfl hl.1 rfl (Nat.le_of_ble_eq_true rfl) dX0_remove_2 ⟨Nat.zero_le _, Nat.zero_le _⟩ hP hS (fun H locs hP hS => ?_)
  refine nv_neB hx hb 10 dX0_remove_5 (by decide) (fun c_5 => ?_) (fun c_5 => ?_)
  · skip
    refine lv_aload_n hx hb dX0_remove_10 rfl (lv_at hl 0 rfl) ?_
    refine lv_dup hx hb dX0_remove_11 rfl ?_
    refine va_get (D := (dC, dI)) (ci := 0) (v := .int (nI P)) (C := RX0) (T := TX0) (N := 7) hx hb hts in_X0 hown hK hP 0 rfl rfl 0 (by decide) (hts _ q29) (fun _ h9 => h9) rfl dX0_remove_12 ?_
    refine lv_iconst (v := (nI 1)) hx hb dX0_remove_15 (by decide) ?_
    refine lv_iload_n hx hb dX0_remove_16 rfl (lv_at hl 1 rfl) ?_
    refine nv_shl1 hx hb (Nat.lt_trans (hasX_lt ha c_5) (by decide)) dX0_remove_17 ?_
    refine lv_iconst (v := (-1)) hx hb dX0_remove_18 (by decide) ?_
    refine lv_ixor hx hb dX0_remove_19 ?_
    refine nv_andn hx hb dX0_remove_20 ?_
    refine va_put (D := (dC, dI)) (ci := 0) (v := .int (nI (nd P (2 ^ a)))) (ty := .int) (C := RX0) (T := TX0) (N := 7) hx hb hts in_X0 tyX0 tyX0_ok nmX0 hown hK hP hD hS 0 rfl rfl 0 (by decide) (hts _ q29) (fun _ h9 => h9) rfl (by decide +kernel) rfl rfl (Nat.le_of_ble_eq_true rfl) dX0_remove_21 (fun H locs hP hD hS => ?_)
    have hP : va_P (dC, dI) vwCl (wX ad cA (nd P (2 ^ a)) y n (bI kb) fd fc fr) H := hP
    have hD : va_D A (wX ad cA (nd P (2 ^ a)) y n (bI kb) fd fc fr) := hD
    refine lv_aload_n hx hb dX0_remove_24 rfl (lv_at hl 0 rfl) ?_
    refine lv_iconst (v := (nI 0)) hx hb dX0_remove_25 (by decide) ?_
    refine va_put (D := (dC, dI)) (ci := 0) (v := .int (nI 0)) (ty := .boolean) (C := RX0) (T := TX0) (N := 7) hx hb hts in_X0 tyX0 tyX0_ok nmX0 hown hK hP hD hS 0 rfl rfl 3 (by decide) (hts _ q32) (fun _ h9 => h9) rfl (by decide +kernel) rfl rfl (Nat.le_of_ble_eq_true rfl) dX0_remove_26 (fun H locs hP hD hS => ?_)
    have hP : va_P (dC, dI) vwCl (wX ad cA (nd P (2 ^ a)) y n (nI 0) fd fc fr) H := hP
    have hD : va_D A (wX ad cA (nd P (2 ^ a)) y n (nI 0) fd fc fr) := hD
    refine lv_iconst (v := (nI 1)) hx hb dX0_remove_29 (by decide) ?_
    exact mi_retz hx hb hr hlocks hS (nd P (2 ^ a), false) hP hD (by simp [remP, remN, c_5]) (Or.inr rfl) (by rw [c_5]; rfl) dX0_remove_30
  · skip
    refine lv_iconst (v := (nI 0)) hx hb dX0_remove_8 (by decide) ?_
    exact mi_retz hx hb hr hlocks hS (P, kb) hP hD (by simp [remP, remN, c_5]) (Or.inl rfl) (by rw [c_5]; rfl) dX0_remove_9
set_option maxHeartbeats 4000000 in
set_option maxRecDepth 100000 in
/-- grow(seed) -/
theorem mX0_grow (l : Launch) (dC : Nat → ClassId) (dI : Nat → Nat → Nat) (ad : Nat → Nat) (cA : Nat → ClassId) (P : Nat) (y n : Nat → Nat) (kn : Int32) (fd fc fr : Nat → Int64) (S : Nat) (hp7 : P < 128) (hy : ∀ k, y k < 16) (hn : ∀ k, n k < 16) (hSP : nd S P = 0) (hcS : cB y n S = true) (sz : Nat) : MV l yX0_grow cX0_grow 5 ({ frames := 3, cells := 0, slots := 0, locals := 76 } : Room) [.ref (ad 0), .int (nI S)] (dC, dI) (wX ad cA P y n kn fd fc fr) (tX cA) sz (GrowP y n P S fd fr) (fun u : (Nat → Int64) × (Nat → Int64) => wX ad cA P y n kn u.1 fc u.2) := by
  refine MV.of (by decide) (Nat.le_of_ble_eq_true rfl) ?_
  intro p e s m below meth c hx hb hr hlocks hml hown hts hK A hA H locs hP hD hS ls hl
  have hown : s.vm.findClass "CoreFinder" = some m.cls := hown
  have hl : lv_has ls 5 [(0, .ref (ad 0)), (1, .int (nI S))] := hl
  refine lv_iload_n hx hb dX0_grow_0 rfl (lv_at hl 1 rfl) ?_
  refine lv_istore_n (lv' := [(2, .int (nI S)), (0, .ref (ad 0)), (1, .int (nI S))]) hx hb dX0_grow_1 rfl hl (by decide) rfl (fun ls hl => ?_)
  refine lv_iconst (v := (nI 0)) hx hb dX0_grow_2 (by decide) ?_
  refine lv_istore_n (lv' := [(3, .int (nI 0)), (2, .int (nI S)), (0, .ref (ad 0)), (1, .int (nI S))]) hx hb dX0_grow_3 rfl hl (by decide) rfl (fun ls hl => ?_)
  have loop_4 : ∀ (n_ : Nat) (G : Nat) (k : Nat), (k ≤ 7) → (nd S G = 0) → (nd G P = 0) → (cB y n G = true) → (∀ t, t < k → P.testBit t = true → G.testBit t = false → cB y n (G ||| 2 ^ t) = false) → 7 - k < n_ → ∀ (H : Heap) (locs : List Loc), va_P (dC, dI) vwCl (wX ad cA P y n kn fd fc fr) H → va_D A (wX ad cA P y n kn fd fc fr) → va_S A s.heap H locs → ∀ (ls : Array Slot), lv_has ls 5 [(0, .ref (ad 0)), (1, .int (nI S)), (2, .int (nI G)), (3, .int (nI k))] → W p l e ({ frames := 3, cells := 0, slots := 0, locals := 76 } : Room) s m ([.ref (ad 0), .int (nI S)] : List Value).toArray below meth c H locs 0 0 (QV below A (dC, dI) (GrowP y n P S fd fr) (fun u : (Nat → Int64) × (Nat → Int64) => wX ad cA P y n kn u.1 fc u.2) ([.ref (ad 0), .int (nI S)] : List Value).toArray s) (F0 m 4 ls []) := by
    intro n_
    induction n_ with
    | zero =>
      intro G k hk hSG hGP hcG hmx hlt
      exact absurd hlt (Nat.not_lt_zero _)
    | succ n_ ih_4 =>
      intro G k hk hSG hGP hcG hmx hlt_4 H locs hP hD hS ls hl
      have hG7 : G < 128 := Nat.lt_of_le_of_lt (sub_le hGP) hp7
      have hPG7 : nd P G < 128 := nd_lt hp7
      refine lv_iload_n hx hb dX0_grow_4 rfl (lv_at hl 3 rfl) ?_
      refine lv_bipush (v := (nI 7)) hx hb dX0_grow_5 (by decide) ?_
      refine nv_cgeN hx hb 42 (by first | omega | exact nd_lt (by omega) | exact Nat.lt_of_le_of_lt Nat.and_le_left (by omega) | exact Nat.lt_of_le_of_lt Nat.and_le_right (by omega)) (by first | omega | exact nd_lt (by omega) | exact Nat.lt_of_le_of_lt Nat.and_le_left (by omega) | exact Nat.lt_of_le_of_lt Nat.and_le_right (by omega)) dX0_grow_7 (by decide) (fun c_7 => ?_) (fun c_7 => ?_)
      · skip
        refine lv_aload_n hx hb dX0_grow_42 rfl (lv_at hl 0 rfl) ?_
        refine va_get (D := (dC, dI)) (ci := 0) (v := .int (nI P)) (C := RX0) (T := TX0) (N := 7) hx hb hts in_X0 hown hK hP 0 rfl rfl 0 (by decide) (hts _ q29) (fun _ h9 => h9) rfl dX0_grow_43 ?_
        refine lv_iload_n hx hb dX0_grow_46 rfl (lv_at hl 2 rfl) ?_
        refine lv_iconst (v := (-1)) hx hb dX0_grow_47 (by decide) ?_
        refine lv_ixor hx hb dX0_grow_48 ?_
        refine nv_andn hx hb dX0_grow_49 ?_
        refine lv_istore_n (lv' := [(3, .int (nI (nd P G))), (0, .ref (ad 0)), (1, .int (nI S)), (2, .int (nI G))]) hx hb dX0_grow_50 rfl hl (by decide) rfl (fun ls hl => ?_)
        refine lv_aload_n hx hb dX0_grow_51 rfl (lv_at hl 1 rfl) ?_
        refine va_get (D := (dC, dI)) (ci := 0) (v := .ref (ad 5)) (C := RX0) (T := TX0) (N := 7) hx hb hts in_X0 hown hK hP 0 rfl rfl 6 (by decide) (hts _ q35) (fun _ h9 => h9) rfl dX0_grow_52 ?_
        refine lv_iload_n hx hb dX0_grow_55 rfl (lv_at hl 0 rfl) ?_
        refine lv_bipush (v := (nI 6)) hx hb dX0_grow_56 (by decide) ?_
        refine nv_shr hx hb (by first | omega | exact nd_lt (by omega) | exact Nat.lt_of_le_of_lt Nat.and_le_left (by omega) | exact Nat.lt_of_le_of_lt Nat.and_le_right (by omega)) (by first | omega | exact nd_lt (by omega) | exact Nat.lt_of_le_of_lt Nat.and_le_left (by omega) | exact Nat.lt_of_le_of_lt Nat.and_le_right (by omega)) dX0_grow_58 ?_
        refine nv_e (y := (nI ((nd P G) / 64))) rfl ?_
        refine lv_dup2_11 hx hb dX0_grow_59 rfl rfl ?_
        refine nv_lald hx hb hK hP 5 4 rfl rfl (by first | omega | exact nd_lt (by omega) | exact Nat.lt_of_le_of_lt Nat.and_le_left (by omega) | exact Nat.lt_of_le_of_lt Nat.and_le_right (by omega)) (by decide) dX0_grow_60 ?_
        refine lv_lconst (v := 1) hx hb dX0_grow_61 (by decide) ?_
        refine lv_iload_n hx hb dX0_grow_62 rfl (lv_at hl 0 rfl) ?_
        refine lv_bipush (v := (nI 63)) hx hb dX0_grow_63 (by decide) ?_
        refine nv_63 hx hb (by first | omega | exact nd_lt (by omega) | exact Nat.lt_of_le_of_lt Nat.and_le_left (by omega) | exact Nat.lt_of_le_of_lt Nat.and_le_right (by omega)) dX0_grow_65 ?_
        refine lv_lshl (v := lN (2 ^ ((nd P G) % 64))) hx hb dX0_grow_66 (ln_shl _ (by first | omega | exact nd_lt (by omega) | exact Nat.lt_of_le_of_lt Nat.and_le_left (by omega) | exact Nat.lt_of_le_of_lt Nat.and_le_right (by omega))) ?_
        refine lv_lor hx hb dX0_grow_67 ?_
        refine nv_last hx hb hK hP hD hS 5 4 rfl rfl (setW fr (nd P G)) (by first | omega | exact nd_lt (by omega) | exact Nat.lt_of_le_of_lt Nat.and_le_left (by omega) | exact Nat.lt_of_le_of_lt Nat.and_le_right (by omega)) (by decide) rfl dX0_grow_68 (fun H locs hP hD hS => ?_)
        have hP : va_P (dC, dI) vwCl (wX ad cA P y n kn fd fc (setW fr (nd P G))) H := hP
        have hD : va_D A (wX ad cA P y n kn fd fc (setW fr (nd P G))) := hD
        refine lv_iconst (v := (nI 0)) hx hb dX0_grow_69 (by decide) ?_
        refine lv_istore (lv' := [(4, .int (nI 0)), (3, .int (nI (nd P G))), (0, .ref (ad 0)), (1, .int (nI S)), (2, .int (nI G))]) hx hb dX0_grow_70 hl (by decide) rfl (fun ls hl => ?_)
        have loop_72 : ∀ (n_ : Nat) (k2 : Nat) (fd1 : Nat → Int64), (k2 ≤ 128) → (∀ t, t < 128 → wbit fd1 t = (wbit fd t || (decide (t < k2) && decide (nd t G = 0)))) → 128 - k2 < n_ → ∀ (H : Heap) (locs : List Loc), va_P (dC, dI) vwCl (wX ad cA P y n kn fd1 fc (setW fr (nd P G))) H → va_D A (wX ad cA P y n kn fd1 fc (setW fr (nd P G))) → va_S A s.heap H locs → ∀ (ls : Array Slot), lv_has ls 5 [(0, .ref (ad 0)), (2, .int (nI G)), (4, .int (nI k2))] → W p l e ({ frames := 3, cells := 0, slots := 0, locals := 76 } : Room) s m ([.ref (ad 0), .int (nI S)] : List Value).toArray below meth c H locs 0 0 (QV below A (dC, dI) (GrowP y n P S fd fr) (fun u : (Nat → Int64) × (Nat → Int64) => wX ad cA P y n kn u.1 fc u.2) ([.ref (ad 0), .int (nI S)] : List Value).toArray s) (F0 m 72 ls []) := by
          intro n_
          induction n_ with
          | zero =>
            intro k2 fd1 hk2 hfd hlt
            exact absurd hlt (Nat.not_lt_zero _)
          | succ n_ ih_72 =>
            intro k2 fd1 hk2 hfd hlt_72 H locs hP hD hS ls hl
            refine lv_iload hx hb dX0_grow_72 (lv_at hl 2 rfl) ?_
            refine lv_sipush (v := (nI 128)) hx hb dX0_grow_74 (by decide) ?_
            refine nv_cgeN hx hb 115 (by first | omega | exact nd_lt (by omega) | exact Nat.lt_of_le_of_lt Nat.and_le_left (by omega) | exact Nat.lt_of_le_of_lt Nat.and_le_right (by omega)) (by first | omega | exact nd_lt (by omega) | exact Nat.lt_of_le_of_lt Nat.and_le_left (by omega) | exact Nat.lt_of_le_of_lt Nat.and_le_right (by omega)) dX0_grow_77 (by decide) (fun c_77 => ?_) (fun c_77 => ?_)
            · skip
              exact mv_ret hx hb hr hlocks hS (fd1, setW fr (nd P G)) hP hD ⟨G, hSG, hGP, hcG, fun t ht => hmx t (by omega), fun t ht => wbit_set hPG7 ht, set_end c_77 hfd⟩ dX0_grow_115
            · skip
              refine lv_iload hx hb dX0_grow_80 (lv_at hl 2 rfl) ?_
              refine lv_iload_n hx hb dX0_grow_82 rfl (lv_at hl 1 rfl) ?_
              refine lv_iconst (v := (-1)) hx hb dX0_grow_83 (by decide) ?_
              refine lv_ixor hx hb dX0_grow_84 ?_
              refine nv_andn hx hb dX0_grow_85 ?_
              refine nv_neN hx hb 109 (by first | omega | exact nd_lt (by omega) | exact Nat.lt_of_le_of_lt Nat.and_le_left (by omega) | exact Nat.lt_of_le_of_lt Nat.and_le_right (by omega)) dX0_grow_86 (by decide) (fun c_86 => ?_) (fun c_86 => ?_)
              · skip
                refine lv_iinc (v := (nI (k2 + 1))) (lv' := [(4, .int (nI (k2 + 1))), (0, .ref (ad 0)), (2, .int (nI G))]) hx hb dX0_grow_109 hl (k := 2) rfl (nI_1 k2) (by decide) rfl (fun ls hl => ?_)
                refine lv_goto (tgt := 72) hx hb dX0_grow_112 (by decide) ?_
                exact ih_72 (k2 + 1) fd1 (by omega) (keep_step hfd (decide_eq_false c_86)) (by omega) _ _ hP hD hS ls (lv_sub hl [1, 2, 0] rfl)
              · skip
                refine lv_aload_n hx hb dX0_grow_89 rfl (lv_at hl 0 rfl) ?_
                refine va_get (D := (dC, dI)) (ci := 0) (v := .ref (ad 3)) (C := RX0) (T := TX0) (N := 7) hx hb hts in_X0 hown hK hP 0 rfl rfl 4 (by decide) (hts _ q33) (fun _ h9 => h9) rfl dX0_grow_90 ?_
                refine lv_iload hx hb dX0_grow_93 (lv_at hl 2 rfl) ?_
                refine lv_bipush (v := (nI 6)) hx hb dX0_grow_95 (by decide) ?_
                refine nv_shr hx hb (by first | omega | exact nd_lt (by omega) | exact Nat.lt_of_le_of_lt Nat.and_le_left (by omega) | exact Nat.lt_of_le_of_lt Nat.and_le_right (by omega)) (by first | omega | exact nd_lt (by omega) | exact Nat.lt_of_le_of_lt Nat.and_le_left (by omega) | exact Nat.lt_of_le_of_lt Nat.and_le_right (by omega)) dX0_grow_97 ?_
                refine nv_e (y := (nI (k2 / 64))) rfl ?_
                refine lv_dup2_11 hx hb dX0_grow_98 rfl rfl ?_
                refine nv_lald hx hb hK hP 3 2 rfl rfl (by first | omega | exact nd_lt (by omega) | exact Nat.lt_of_le_of_lt Nat.and_le_left (by omega) | exact Nat.lt_of_le_of_lt Nat.and_le_right (by omega)) (by decide) dX0_grow_99 ?_
                refine lv_lconst (v := 1) hx hb dX0_grow_100 (by decide) ?_
                refine lv_iload hx hb dX0_grow_101 (lv_at hl 2 rfl) ?_
                refine lv_bipush (v := (nI 63)) hx hb dX0_grow_103 (by decide) ?_
                refine nv_63 hx hb (by first | omega | exact nd_lt (by omega) | exact Nat.lt_of_le_of_lt Nat.and_le_left (by omega) | exact Nat.lt_of_le_of_lt Nat.and_le_right (by omega)) dX0_grow_105 ?_
                refine lv_lshl (v := lN (2 ^ (k2 % 64))) hx hb dX0_grow_106 (ln_shl _ (by first | omega | exact nd_lt (by omega) | exact Nat.lt_of_le_of_lt Nat.and_le_left (by omega) | exact Nat.lt_of_le_of_lt Nat.and_le_right (by omega))) ?_
                refine lv_lor hx hb dX0_grow_107 ?_
                refine nv_last hx hb hK hP hD hS 3 2 rfl rfl (setW fd1 k2) (by first | omega | exact nd_lt (by omega) | exact Nat.lt_of_le_of_lt Nat.and_le_left (by omega) | exact Nat.lt_of_le_of_lt Nat.and_le_right (by omega)) (by decide) rfl dX0_grow_108 (fun H locs hP hD hS => ?_)
                have hP : va_P (dC, dI) vwCl (wX ad cA P y n kn (setW fd1 k2) fc (setW fr (nd P G))) H := hP
                have hD : va_D A (wX ad cA P y n kn (setW fd1 k2) fc (setW fr (nd P G))) := hD
                refine lv_iinc (v := (nI (k2 + 1))) (lv' := [(4, .int (nI (k2 + 1))), (0, .ref (ad 0)), (2, .int (nI G))]) hx hb dX0_grow_109 hl (k := 2) rfl (nI_1 k2) (by decide) rfl (fun ls hl => ?_)
                refine lv_goto (tgt := 72) hx hb dX0_grow_112 (by decide) ?_
                exact ih_72 (k2 + 1) (setW fd1 k2) (by omega) (set_step c_77 hfd (decide_eq_true c_86)) (by omega) _ _ hP hD hS ls (lv_sub hl [1, 2, 0] rfl)
        exact loop_72 (128 - 0 + 1) 0 fd (by omega) (fun t ht => by simp) (Nat.lt_succ_self _) _ _ hP hD hS ls (lv_sub hl [2, 4, 0] rfl)
      · skip
        refine lv_aload_n hx hb dX0_grow_10 rfl (lv_at hl 0 rfl) ?_
        refine lv_iload_n hx hb dX0_grow_11 rfl (lv_at hl 3 rfl) ?_
        refine pi_callV (ws0 := (wX ad cA P y n kn fd fc fr)) (rest := []) ⟨hx, hb, hml, hown, hts⟩ [.int (nI k)] (mX0_has l dC dI ad cA P y n kn fd fc fr (nI k)) (lw_V q60 q62 qs0 q19 q63) hdX0_has ⟨Nat.le_of_ble_eq_true rfl, Nat.le_of_ble_eq_true rfl⟩ ⟨rfl, rfl⟩ hK hP (q0 := 0) (ci := 0) rfl rfl rfl hl.1 rfl (Nat.le_of_ble_eq_true rfl) dX0_grow_12 ⟨Nat.zero_le _, Nat.zero_le _⟩ hP hS (fun H locs hP hS => ?_)
        refine nv_e (y := (bI (P.testBit k))) (by rw [hasX_nI c_7]) ?_
        refine nv_eqB hx hb 36 dX0_grow_15 (by decide) (fun c_15 => ?_) (fun c_15 => ?_)
        · skip
          refine lv_iinc (v := (nI (k + 1))) (lv' := [(3, .int (nI (k + 1))), (0, .ref (ad 0)), (1, .int (nI S)), (2, .int (nI G))]) hx hb dX0_grow_36 hl (k := 3) rfl (nI_1 k) (by decide) rfl (fun ls hl => ?_)
          refine lv_goto (tgt := 4) hx hb dX0_grow_39 (by decide) ?_
          exact ih_4 G (k + 1) (by omega) hSG hGP hcG (grow_no hmx (fun h _ => by rw [c_15] at h; cases h)) (by omega) _ _ hP hD hS ls (lv_sub hl [1, 2, 3, 0] rfl)
        · skip
          refine lv_aload_n hx hb dX0_grow_18 rfl (lv_at hl 0 rfl) ?_
          refine lv_iload_n hx hb dX0_grow_19 rfl (lv_at hl 2 rfl) ?_
          refine lv_iconst (v := (nI 1)) hx hb dX0_grow_20 (by decide) ?_
          refine lv_iload_n hx hb dX0_grow_21 rfl (lv_at hl 3 rfl) ?_
          refine nv_shl1 hx hb (by first | omega | exact nd_lt (by omega) | exact Nat.lt_of_le_of_lt Nat.and_le_left (by omega) | exact Nat.lt_of_le_of_lt Nat.and_le_right (by omega)) dX0_grow_22 ?_
          refine nv_or hx hb dX0_grow_23 ?_
          refine pi_callV (ws0 := (wX ad cA P y n kn fd fc fr)) (rest := []) ⟨hx, hb, hml, hown, hts⟩ [.int (nI (G ||| (2 ^ k)))] (mX0_holdsTogether l dC dI ad cA P y n kn fd fc fr (G ||| (2 ^ k)) hy hn) (lw_V q76 q78 qs1 q19 q79) hdX0_holdsTogether ⟨Nat.le_of_ble_eq_true rfl, Nat.le_of_ble_eq_true rfl⟩ ⟨rfl, rfl⟩ hK hP (q0 := 0) (ci := 0) rfl rfl rfl hl.1 rfl (Nat.le_of_ble_eq_true rfl) dX0_grow_24 ⟨Nat.zero_le _, Nat.zero_le _⟩ hP hS (fun H locs hP hS => ?_)
          refine nv_eqB hx hb 36 dX0_grow_27 (by decide) (fun c_27 => ?_) (fun c_27 => ?_)
          · skip
            refine lv_iinc (v := (nI (k + 1))) (lv' := [(3, .int (nI (k + 1))), (0, .ref (ad 0)), (1, .int (nI S)), (2, .int (nI G))]) hx hb dX0_grow_36 hl (k := 3) rfl (nI_1 k) (by decide) rfl (fun ls hl => ?_)
            refine lv_goto (tgt := 4) hx hb dX0_grow_39 (by decide) ?_
            exact ih_4 G (k + 1) (by omega) hSG hGP hcG (grow_no hmx (fun _ _ => c_27)) (by omega) _ _ hP hD hS ls (lv_sub hl [1, 2, 3, 0] rfl)
          · skip
            refine lv_iload_n hx hb dX0_grow_30 rfl (lv_at hl 2 rfl) ?_
            refine lv_iconst (v := (nI 1)) hx hb dX0_grow_31 (by decide) ?_
            refine lv_iload_n hx hb dX0_grow_32 rfl (lv_at hl 3 rfl) ?_
            refine nv_shl1 hx hb (by first | omega | exact nd_lt (by omega) | exact Nat.lt_of_le_of_lt Nat.and_le_left (by omega) | exact Nat.lt_of_le_of_lt Nat.and_le_right (by omega)) dX0_grow_33 ?_
            refine nv_or hx hb dX0_grow_34 ?_
            refine lv_istore_n (lv' := [(2, .int (nI (G ||| (2 ^ k)))), (0, .ref (ad 0)), (1, .int (nI S)), (3, .int (nI k))]) hx hb dX0_grow_35 rfl hl (by decide) rfl (fun ls hl => ?_)
            refine lv_iinc (v := (nI (k + 1))) (lv' := [(3, .int (nI (k + 1))), (2, .int (nI (G ||| (2 ^ k)))), (0, .ref (ad 0)), (1, .int (nI S))]) hx hb dX0_grow_36 hl (k := 3) rfl (nI_1 k) (by decide) rfl (fun ls hl => ?_)
            refine lv_goto (tgt := 4) hx hb dX0_grow_39 (by decide) ?_
            exact ih_4 (G ||| (2 ^ k)) (k + 1) (by omega) (grow_or (y := y) (n := n) hSG hGP c_15).1 (grow_or (y := y) (n := n) hSG hGP c_15).2 c_27 (grow_yes hmx) (by omega) _ _ hP hD hS ls (lv_sub hl [2, 3, 1, 0] rfl)
  exact loop_4 (7 - 0 + 1) S 0 (by omega) (nd_refl S) hSP hcS (fun t h => absurd h (Nat.not_lt_zero t)) (Nat.lt_succ_self _) _ _ hP hD hS ls (lv_sub hl [2, 3, 1, 0] rfl)
set_option maxHeartbeats 4000000 in
set_option maxRecDepth 100000 in
/-- shrink(seed) -/
theorem mX0_shrink (l : Launch) (dC : Nat → ClassId) (dI : Nat → Nat → Nat) (ad : Nat → Nat) (cA : Nat → ClassId) (P : Nat) (y n : Nat → Nat) (kn : Int32) (fd fc fr : Nat → Int64) (S : Nat) (hp7 : P < 128) (hy : ∀ k, y k < 16) (hn : ∀ k, n k < 16) (hS7 : S < 128) (hcS : cB y n S = false) (sz : Nat) : MV l yX0_shrink cX0_shrink 4 ({ frames := 3, cells := 0, slots := 0, locals := 76 } : Room) [.ref (ad 0), .int (nI S)] (dC, dI) (wX ad cA P y n kn fd fc fr) (tX cA) sz (ShrinkP y n S fd fc) (fun u : (Nat → Int64) × (Nat → Int64) => wX ad cA P y n kn u.1 u.2 fr) := by
  refine MV.of (by decide) (Nat.le_of_ble_eq_true rfl) ?_
  intro p e s m below meth c hx hb hr hlocks hml hown hts hK A hA H locs hP hD hS ls hl
  have hown : s.vm.findClass "CoreFinder" = some m.cls := hown
  have hl : lv_has ls 4 [(0, .ref (ad 0)), (1, .int (nI S))] := hl
  refine lv_iload_n hx hb dX0_shrink_0 rfl (lv_at hl 1 rfl) ?_
  refine lv_istore_n (lv' := [(2, .int (nI S)), (0, .ref (ad 0)), (1, .int (nI S))]) hx hb dX0_shrink_1 rfl hl (by decide) rfl (fun ls hl => ?_)
  refine lv_iconst (v := (nI 0)) hx hb dX0_shrink_2 (by decide) ?_
  refine lv_istore_n (lv' := [(3, .int (nI 0)), (2, .int (nI S)), (0, .ref (ad 0)), (1, .int (nI S))]) hx hb dX0_shrink_3 rfl hl (by decide) rfl (fun ls hl => ?_)
  have loop_4 : ∀ (n_ : Nat) (G : Nat) (k : Nat), (k ≤ 7) → (nd G S = 0) → (cB y n G = false) → (∀ t, t < k → G.testBit t = true → cB y n (nd G (2 ^ t)) = true) → 7 - k < n_ → ∀ (H : Heap) (locs : List Loc), va_P (dC, dI) vwCl (wX ad cA P y n kn fd fc fr) H → va_D A (wX ad cA P y n kn fd fc fr) → va_S A s.heap H locs → ∀ (ls : Array Slot), lv_has ls 4 [(0, .ref (ad 0)), (1, .int (nI S)), (2, .int (nI G)), (3, .int (nI k))] → W p l e ({ frames := 3, cells := 0, slots := 0, locals := 76 } : Room) s m ([.ref (ad 0), .int (nI S)] : List Value).toArray below meth c H locs 0 0 (QV below A (dC, dI) (ShrinkP y n S fd fc) (fun u : (Nat → Int64) × (Nat → Int64) => wX ad cA P y n kn u.1 u.2 fr) ([.ref (ad 0), .int (nI S)] : List Value).toArray s) (F0 m 4 ls []) := by
    intro n_
    induction n_ with
    | zero =>
      intro G k hk hGS hcG hmn hlt
      exact absurd hlt (Nat.not_lt_zero _)
    | succ n_ ih_4 =>
      intro G k hk hGS hcG hmn hlt_4 H locs hP hD hS ls hl
      have hG7 : G < 128 := Nat.lt_of_le_of_lt (sub_le hGS) hS7
      refine lv_iload_n hx hb dX0_shrink_4 rfl (lv_at hl 3 rfl) ?_
      refine lv_bipush (v := (nI 7)) hx hb dX0_shrink_5 (by decide) ?_
      refine nv_cgeN hx hb 46 (by first | omega | exact nd_lt (by omega) | exact Nat.lt_of_le_of_lt Nat.and_le_left (by omega) | exact Nat.lt_of_le_of_lt Nat.and_le_right (by omega)) (by first | omega | exact nd_lt (by omega) | exact Nat.lt_of_le_of_lt Nat.and_le_left (by omega) | exact Nat.lt_of_le_of_lt Nat.and_le_right (by omega)) dX0_shrink_7 (by decide) (fun c_7 => ?_) (fun c_7 => ?_)
      · skip
        refine lv_aload_n hx hb dX0_shrink_46 rfl (lv_at hl 0 rfl) ?_
        refine va_get (D := (dC, dI)) (ci := 0) (v := .ref (ad 4)) (C := RX0) (T := TX0) (N := 7) hx hb hts in_X0 hown hK hP 0 rfl rfl 5 (by decide) (hts _ q34) (fun _ h9 => h9) rfl dX0_shrink_47 ?_
        refine lv_iload_n hx hb dX0_shrink_50 rfl (lv_at hl 2 rfl) ?_
        refine lv_bipush (v := (nI 6)) hx hb dX0_shrink_51 (by decide) ?_
        refine nv_shr hx hb (by first | omega | exact nd_lt (by omega) | exact Nat.lt_of_le_of_lt Nat.and_le_left (by omega) | exact Nat.lt_of_le_of_lt Nat.and_le_right (by omega)) (by first | omega | exact nd_lt (by omega) | exact Nat.lt_of_le_of_lt Nat.and_le_left (by omega) | exact Nat.lt_of_le_of_lt Nat.and_le_right (by omega)) dX0_shrink_53 ?_
        refine nv_e (y := (nI (G / 64))) rfl ?_
        refine lv_dup2_11 hx hb dX0_shrink_54 rfl rfl ?_
        refine nv_lald hx hb hK hP 4 3 rfl rfl (by first | omega | exact nd_lt (by omega) | exact Nat.lt_of_le_of_lt Nat.and_le_left (by omega) | exact Nat.lt_of_le_of_lt Nat.and_le_right (by omega)) (by decide) dX0_shrink_55 ?_
        refine lv_lconst (v := 1) hx hb dX0_shrink_56 (by decide) ?_
        refine lv_iload_n hx hb dX0_shrink_57 rfl (lv_at hl 2 rfl) ?_
        refine lv_bipush (v := (nI 63)) hx hb dX0_shrink_58 (by decide) ?_
        refine nv_63 hx hb (by first | omega | exact nd_lt (by omega) | exact Nat.lt_of_le_of_lt Nat.and_le_left (by omega) | exact Nat.lt_of_le_of_lt Nat.and_le_right (by omega)) dX0_shrink_60 ?_
        refine lv_lshl (v := lN (2 ^ (G % 64))) hx hb dX0_shrink_61 (ln_shl _ (by first | omega | exact nd_lt (by omega) | exact Nat.lt_of_le_of_lt Nat.and_le_left (by omega) | exact Nat.lt_of_le_of_lt Nat.and_le_right (by omega))) ?_
        refine lv_lor hx hb dX0_shrink_62 ?_
        refine nv_last hx hb hK hP hD hS 4 3 rfl rfl (setW fc G) (by first | omega | exact nd_lt (by omega) | exact Nat.lt_of_le_of_lt Nat.and_le_left (by omega) | exact Nat.lt_of_le_of_lt Nat.and_le_right (by omega)) (by decide) rfl dX0_shrink_63 (fun H locs hP hD hS => ?_)
        have hP : va_P (dC, dI) vwCl (wX ad cA P y n kn fd (setW fc G) fr) H := hP
        have hD : va_D A (wX ad cA P y n kn fd (setW fc G) fr) := hD
        refine lv_iconst (v := (nI 0)) hx hb dX0_shrink_64 (by decide) ?_
        refine lv_istore_n (lv' := [(3, .int (nI 0)), (0, .ref (ad 0)), (1, .int (nI S)), (2, .int (nI G))]) hx hb dX0_shrink_65 rfl hl (by decide) rfl (fun ls hl => ?_)
        have loop_66 : ∀ (n_ : Nat) (k2 : Nat) (fd1 : Nat → Int64), (k2 ≤ 128) → (∀ t, t < 128 → wbit fd1 t = (wbit fd t || (decide (t < k2) && decide (nd G t = 0)))) → 128 - k2 < n_ → ∀ (H : Heap) (locs : List Loc), va_P (dC, dI) vwCl (wX ad cA P y n kn fd1 (setW fc G) fr) H → va_D A (wX ad cA P y n kn fd1 (setW fc G) fr) → va_S A s.heap H locs → ∀ (ls : Array Slot), lv_has ls 4 [(0, .ref (ad 0)), (2, .int (nI G)), (3, .int (nI k2))] → W p l e ({ frames := 3, cells := 0, slots := 0, locals := 76 } : Room) s m ([.ref (ad 0), .int (nI S)] : List Value).toArray below meth c H locs 0 0 (QV below A (dC, dI) (ShrinkP y n S fd fc) (fun u : (Nat → Int64) × (Nat → Int64) => wX ad cA P y n kn u.1 u.2 fr) ([.ref (ad 0), .int (nI S)] : List Value).toArray s) (F0 m 66 ls []) := by
          intro n_
          induction n_ with
          | zero =>
            intro k2 fd1 hk2 hfd hlt
            exact absurd hlt (Nat.not_lt_zero _)
          | succ n_ ih_66 =>
            intro k2 fd1 hk2 hfd hlt_66 H locs hP hD hS ls hl
            refine lv_iload_n hx hb dX0_shrink_66 rfl (lv_at hl 2 rfl) ?_
            refine lv_sipush (v := (nI 128)) hx hb dX0_shrink_67 (by decide) ?_
            refine nv_cgeN hx hb 105 (by first | omega | exact nd_lt (by omega) | exact Nat.lt_of_le_of_lt Nat.and_le_left (by omega) | exact Nat.lt_of_le_of_lt Nat.and_le_right (by omega)) (by first | omega | exact nd_lt (by omega) | exact Nat.lt_of_le_of_lt Nat.and_le_left (by omega) | exact Nat.lt_of_le_of_lt Nat.and_le_right (by omega)) dX0_shrink_70 (by decide) (fun c_70 => ?_) (fun c_70 => ?_)
            · skip
              exact mv_ret hx hb hr hlocks hS (fd1, setW fc G) hP hD ⟨G, hGS, hcG, fun t ht => hmn t (by omega), fun t ht => wbit_set hG7 ht, set_end c_70 hfd⟩ dX0_shrink_105
            · skip
              refine lv_iload_n hx hb dX0_shrink_73 rfl (lv_at hl 1 rfl) ?_
              refine lv_iload_n hx hb dX0_shrink_74 rfl (lv_at hl 2 rfl) ?_
              refine lv_iconst (v := (-1)) hx hb dX0_shrink_75 (by decide) ?_
              refine lv_ixor hx hb dX0_shrink_76 ?_
              refine nv_andn hx hb dX0_shrink_77 ?_
              refine nv_neN hx hb 99 (by first | omega | exact nd_lt (by omega) | exact Nat.lt_of_le_of_lt Nat.and_le_left (by omega) | exact Nat.lt_of_le_of_lt Nat.and_le_right (by omega)) dX0_shrink_78 (by decide) (fun c_78 => ?_) (fun c_78 => ?_)
              · skip
                refine lv_iinc (v := (nI (k2 + 1))) (lv' := [(3, .int (nI (k2 + 1))), (0, .ref (ad 0)), (2, .int (nI G))]) hx hb dX0_shrink_99 hl (k := 2) rfl (nI_1 k2) (by decide) rfl (fun ls hl => ?_)
                refine lv_goto (tgt := 66) hx hb dX0_shrink_102 (by decide) ?_
                exact ih_66 (k2 + 1) fd1 (by omega) (keep_step hfd (decide_eq_false c_78)) (by omega) _ _ hP hD hS ls (lv_sub hl [1, 2, 0] rfl)
              · skip
                refine lv_aload_n hx hb dX0_shrink_81 rfl (lv_at hl 0 rfl) ?_
                refine va_get (D := (dC, dI)) (ci := 0) (v := .ref (ad 3)) (C := RX0) (T := TX0) (N := 7) hx hb hts in_X0 hown hK hP 0 rfl rfl 4 (by decide) (hts _ q33) (fun _ h9 => h9) rfl dX0_shrink_82 ?_
                refine lv_iload_n hx hb dX0_shrink_85 rfl (lv_at hl 2 rfl) ?_
                refine lv_bipush (v := (nI 6)) hx hb dX0_shrink_86 (by decide) ?_
                refine nv_shr hx hb (by first | omega | exact nd_lt (by omega) | exact Nat.lt_of_le_of_lt Nat.and_le_left (by omega) | exact Nat.lt_of_le_of_lt Nat.and_le_right (by omega)) (by first | omega | exact nd_lt (by omega) | exact Nat.lt_of_le_of_lt Nat.and_le_left (by omega) | exact Nat.lt_of_le_of_lt Nat.and_le_right (by omega)) dX0_shrink_88 ?_
                refine nv_e (y := (nI (k2 / 64))) rfl ?_
                refine lv_dup2_11 hx hb dX0_shrink_89 rfl rfl ?_
                refine nv_lald hx hb hK hP 3 2 rfl rfl (by first | omega | exact nd_lt (by omega) | exact Nat.lt_of_le_of_lt Nat.and_le_left (by omega) | exact Nat.lt_of_le_of_lt Nat.and_le_right (by omega)) (by decide) dX0_shrink_90 ?_
                refine lv_lconst (v := 1) hx hb dX0_shrink_91 (by decide) ?_
                refine lv_iload_n hx hb dX0_shrink_92 rfl (lv_at hl 2 rfl) ?_
                refine lv_bipush (v := (nI 63)) hx hb dX0_shrink_93 (by decide) ?_
                refine nv_63 hx hb (by first | omega | exact nd_lt (by omega) | exact Nat.lt_of_le_of_lt Nat.and_le_left (by omega) | exact Nat.lt_of_le_of_lt Nat.and_le_right (by omega)) dX0_shrink_95 ?_
                refine lv_lshl (v := lN (2 ^ (k2 % 64))) hx hb dX0_shrink_96 (ln_shl _ (by first | omega | exact nd_lt (by omega) | exact Nat.lt_of_le_of_lt Nat.and_le_left (by omega) | exact Nat.lt_of_le_of_lt Nat.and_le_right (by omega))) ?_
                refine lv_lor hx hb dX0_shrink_97 ?_
                refine nv_last hx hb hK hP hD hS 3 2 rfl rfl (setW fd1 k2) (by first | omega | exact nd_lt (by omega) | exact Nat.lt_of_le_of_lt Nat.and_le_left (by omega) | exact Nat.lt_of_le_of_lt Nat.and_le_right (by omega)) (by decide) rfl dX0_shrink_98 (fun H locs hP hD hS => ?_)
                have hP : va_P (dC, dI) vwCl (wX ad cA P y n kn (setW fd1 k2) (setW fc G) fr) H := hP
                have hD : va_D A (wX ad cA P y n kn (setW fd1 k2) (setW fc G) fr) := hD
                refine lv_iinc (v := (nI (k2 + 1))) (lv' := [(3, .int (nI (k2 + 1))), (0, .ref (ad 0)), (2, .int (nI G))]) hx hb dX0_shrink_99 hl (k := 2) rfl (nI_1 k2) (by decide) rfl (fun ls hl => ?_)
                refine lv_goto (tgt := 66) hx hb dX0_shrink_102 (by decide) ?_
                exact ih_66 (k2 + 1) (setW fd1 k2) (by omega) (set_step c_70 hfd (decide_eq_true c_78)) (by omega) _ _ hP hD hS ls (lv_sub hl [1, 2, 0] rfl)
        exact loop_66 (128 - 0 + 1) 0 fd (by omega) (fun t ht => by simp) (Nat.lt_succ_self _) _ _ hP hD hS ls (lv_sub hl [1, 3, 0] rfl)
      · skip
        refine lv_iload_n hx hb dX0_shrink_10 rfl (lv_at hl 2 rfl) ?_
        refine lv_iload_n hx hb dX0_shrink_11 rfl (lv_at hl 3 rfl) ?_
        refine lv_ishr hx hb dX0_shrink_12 ?_
        refine lv_iconst (v := (nI 1)) hx hb dX0_shrink_13 (by decide) ?_
        refine nv_bit hx hb (by first | omega | exact nd_lt (by omega) | exact Nat.lt_of_le_of_lt Nat.and_le_left (by omega) | exact Nat.lt_of_le_of_lt Nat.and_le_right (by omega)) dX0_shrink_14 ?_
        refine nv_eqB hx hb 40 dX0_shrink_15 (by decide) (fun c_15 => ?_) (fun c_15 => ?_)
        · skip
          refine lv_iinc (v := (nI (k + 1))) (lv' := [(3, .int (nI (k + 1))), (0, .ref (ad 0)), (1, .int (nI S)), (2, .int (nI G))]) hx hb dX0_shrink_40 hl (k := 3) rfl (nI_1 k) (by decide) rfl (fun ls hl => ?_)
          refine lv_goto (tgt := 4) hx hb dX0_shrink_43 (by decide) ?_
          exact ih_4 G (k + 1) (by omega) hGS hcG (lt_step hmn (fun h => by rw [c_15] at h; cases h)) (by omega) _ _ hP hD hS ls (lv_sub hl [1, 2, 3, 0] rfl)
        · skip
          refine lv_aload_n hx hb dX0_shrink_18 rfl (lv_at hl 0 rfl) ?_
          refine lv_iload_n hx hb dX0_shrink_19 rfl (lv_at hl 2 rfl) ?_
          refine lv_iconst (v := (nI 1)) hx hb dX0_shrink_20 (by decide) ?_
          refine lv_iload_n hx hb dX0_shrink_21 rfl (lv_at hl 3 rfl) ?_
          refine nv_shl1 hx hb (by first | omega | exact nd_lt (by omega) | exact Nat.lt_of_le_of_lt Nat.and_le_left (by omega) | exact Nat.lt_of_le_of_lt Nat.and_le_right (by omega)) dX0_shrink_22 ?_
          refine lv_iconst (v := (-1)) hx hb dX0_shrink_23 (by decide) ?_
          refine lv_ixor hx hb dX0_shrink_24 ?_
          refine nv_andn hx hb dX0_shrink_25 ?_
          refine pi_callV (ws0 := (wX ad cA P y n kn fd fc fr)) (rest := []) ⟨hx, hb, hml, hown, hts⟩ [.int (nI (nd G (2 ^ k)))] (mX0_holdsTogether l dC dI ad cA P y n kn fd fc fr (nd G (2 ^ k)) hy hn) (lw_V q76 q78 qs1 q19 q79) hdX0_holdsTogether ⟨Nat.le_of_ble_eq_true rfl, Nat.le_of_ble_eq_true rfl⟩ ⟨rfl, rfl⟩ hK hP (q0 := 0) (ci := 0) rfl rfl rfl hl.1 rfl (Nat.le_of_ble_eq_true rfl) dX0_shrink_26 ⟨Nat.zero_le _, Nat.zero_le _⟩ hP hS (fun H locs hP hS => ?_)
          refine nv_neB hx hb 40 dX0_shrink_29 (by decide) (fun c_29 => ?_) (fun c_29 => ?_)
          · skip
            refine lv_iinc (v := (nI (k + 1))) (lv' := [(3, .int (nI (k + 1))), (0, .ref (ad 0)), (1, .int (nI S)), (2, .int (nI G))]) hx hb dX0_shrink_40 hl (k := 3) rfl (nI_1 k) (by decide) rfl (fun ls hl => ?_)
            refine lv_goto (tgt := 4) hx hb dX0_shrink_43 (by decide) ?_
            exact ih_4 G (k + 1) (by omega) hGS hcG (lt_step hmn (fun _ => c_29)) (by omega) _ _ hP hD hS ls (lv_sub hl [1, 2, 3, 0] rfl)
          · skip
            refine lv_iload_n hx hb dX0_shrink_32 rfl (lv_at hl 2 rfl) ?_
            refine lv_iconst (v := (nI 1)) hx hb dX0_shrink_33 (by decide) ?_
            refine lv_iload_n hx hb dX0_shrink_34 rfl (lv_at hl 3 rfl) ?_
            refine nv_shl1 hx hb (by first | omega | exact nd_lt (by omega) | exact Nat.lt_of_le_of_lt Nat.and_le_left (by omega) | exact Nat.lt_of_le_of_lt Nat.and_le_right (by omega)) dX0_shrink_35 ?_
            refine lv_iconst (v := (-1)) hx hb dX0_shrink_36 (by decide) ?_
            refine lv_ixor hx hb dX0_shrink_37 ?_
            refine nv_andn hx hb dX0_shrink_38 ?_
            refine lv_istore_n (lv' := [(2, .int (nI (nd G (2 ^ k)))), (0, .ref (ad 0)), (1, .int (nI S)), (3, .int (nI k))]) hx hb dX0_shrink_39 rfl hl (by decide) rfl (fun ls hl => ?_)
            refine lv_iinc (v := (nI (k + 1))) (lv' := [(3, .int (nI (k + 1))), (2, .int (nI (nd G (2 ^ k)))), (0, .ref (ad 0)), (1, .int (nI S))]) hx hb dX0_shrink_40 hl (k := 3) rfl (nI_1 k) (by decide) rfl (fun ls hl => ?_)
            refine lv_goto (tgt := 4) hx hb dX0_shrink_43 (by decide) ?_
            exact ih_4 (nd G (2 ^ k)) (k + 1) (by omega) (nd_trans (nd_sub G _) hGS) c_29 (shrink_yes hmn) (by omega) _ _ hP hD hS ls (lv_sub hl [2, 3, 1, 0] rfl)
  exact loop_4 (7 - 0 + 1) S 0 (by omega) (nd_refl S) hcS (fun t h => absurd h (Nat.not_lt_zero t)) (Nat.lt_succ_self _) _ _ hP hD hS ls (lv_sub hl [2, 3, 1, 0] rfl)
end
section
/-! steps of the folds -/
set_option maxRecDepth 100000
theorem mtX_f {P : Nat} {f : Nat → Bool} {k : Nat} (h : f k = false) : mtX P f k = mtX P f (k + 1) := by simp [mtX, h]
theorem mtX_n {P : Nat} {f : Nat → Bool} {k : Nat} (hl : on7 (nd P k) 7 ≤ mtX P f k) : mtX P f k = mtX P f (k + 1) := by
  have : ¬ mtX P f k < on7 (nd P k) 7 := by omega
  simp [mtX, this]
theorem mtX_y {P : Nat} {f : Nat → Bool} {k : Nat} (h : f k = true) (hl : mtX P f k < on7 (nd P k) 7) : on7 (nd P k) 7 = mtX P f (k + 1) := by simp [mtX, h, hl]
theorem mtM_f {f : Nat → Bool} {k : Nat} (h : f k = false) : mtM f k = mtM f (k + 1) := by simp [mtM, h]
theorem mtM_n {f : Nat → Bool} {k : Nat} (hl : on7 k 7 ≤ mtM f k) : mtM f k = mtM f (k + 1) := by
  have : ¬ mtM f k < on7 k 7 := by omega
  simp [mtM, this]
theorem mtM_y {f : Nat → Bool} {k : Nat} (h : f k = true) (hl : mtM f k < on7 k 7) : on7 k 7 = mtM f (k + 1) := by simp [mtM, h, hl]
theorem min_f {f : Nat → Bool} {k : Nat} (h : f k = false) : minN f k = minN f (k + 1) := by simp [minN, h]
theorem min_y0 {f : Nat → Bool} {k : Nat} (h : f k = true) (ho : none = minN f k) : some (on7 k 7) = minN f (k + 1) := by simp [minN, h, ← ho, lessO]
theorem min_n {f : Nat → Bool} {k j : Nat} (ho : some j = minN f k) (hl : j ≤ on7 k 7) : some j = minN f (k + 1) := by
  have : ¬ on7 k 7 < j := by omega
  simp [minN, ← ho, lessO, this]
theorem min_y {f : Nat → Bool} {k j : Nat} (h : f k = true) (ho : some j = minN f k) (hl : on7 k 7 < j) : some (on7 k 7) = minN f (k + 1) := by simp [minN, h, ← ho, lessO, hl]
theorem on31 (S : Nat) : on7 S 7 < 2 ^ 31 := Nat.lt_of_le_of_lt (on7_le S 7) (by decide)
end
section
set_option maxRecDepth 100000
set_option maxHeartbeats 4000000 in
set_option maxRecDepth 100000 in
/-- learn() -/
theorem mX0_learn (l : Launch) (dC : Nat → ClassId) (dI : Nat → Nat → Nat) (ad : Nat → Nat) (cA : Nat → ClassId) (P : Nat) (y n : Nat → Nat) (kb : Bool) (fd fc fr : Nat → Int64) (hp7 : P < 128) (hy : ∀ k, y k < 16) (hn : ∀ k, n k < 16) (hgood : kb = true → Good y n P fc fr) (sz : Nat) : MV l yX0_learn cX0_learn 3 ({ frames := 4, cells := 0, slots := 0, locals := 100 } : Room) [.ref (ad 0)] (dC, dI) (wX ad cA P y n (bI kb) fd fc fr) (tX cA) sz (fun u : (Nat → Int64) × (Nat → Int64) × (Nat → Int64) => Good y n P u.2.1 u.2.2) (fun u : (Nat → Int64) × (Nat → Int64) × (Nat → Int64) => wX ad cA P y n (bI true) u.1 u.2.1 u.2.2) := by
  refine MV.of (by decide) (Nat.le_of_ble_eq_true rfl) ?_
  intro p e s m below meth c hx hb hr hlocks hml hown hts hK A hA H locs hP hD hS ls hl
  have hown : s.vm.findClass "CoreFinder" = some m.cls := hown
  have hl : lv_has ls 3 [(0, .ref (ad 0))] := hl
  refine lv_aload_n hx hb dX0_learn_0 rfl (lv_at hl 0 rfl) ?_
  refine va_get (D := (dC, dI)) (ci := 0) (v := .int (bI kb)) (C := RX0) (T := TX0) (N := 7) hx hb hts in_X0 hown hK hP 0 rfl rfl 3 (by decide) (hts _ q32) (fun _ h9 => h9) rfl dX0_learn_1 ?_
  refine nv_eqB hx hb 8 dX0_learn_4 (by decide) (fun c_4 => ?_) (fun c_4 => ?_)
  · skip
    refine lv_aload_n hx hb dX0_learn_8 rfl (lv_at hl 0 rfl) ?_
    refine lv_iconst (v := (nI 1)) hx hb dX0_learn_9 (by decide) ?_
    refine va_put (D := (dC, dI)) (ci := 0) (v := .int (nI 1)) (ty := .boolean) (C := RX0) (T := TX0) (N := 7) hx hb hts in_X0 tyX0 tyX0_ok nmX0 hown hK hP hD hS 0 rfl rfl 3 (by decide) (hts _ q32) (fun _ h9 => h9) rfl (by decide +kernel) rfl rfl (Nat.le_of_ble_eq_true rfl) dX0_learn_10 (fun H locs hP hD hS => ?_)
    have hP : va_P (dC, dI) vwCl (wX ad cA P y n (nI 1) fd fc fr) H := hP
    have hD : va_D A (wX ad cA P y n (nI 1) fd fc fr) := hD
    refine lv_iconst (v := (nI 0)) hx hb dX0_learn_13 (by decide) ?_
    refine lv_istore_n (lv' := [(1, .int (nI 0)), (0, .ref (ad 0))]) hx hb dX0_learn_14 rfl hl (by decide) rfl (fun ls hl => ?_)
    have loop_15 : ∀ (n_ : Nat) (k : Nat) (fd1 : Nat → Int64) (fc1 : Nat → Int64) (fr1 : Nat → Int64), (k ≤ 2) → (∀ w, w < k → fd1 w = 0 ∧ fc1 w = 0 ∧ fr1 w = 0) → 2 - k < n_ → ∀ (H : Heap) (locs : List Loc), va_P (dC, dI) vwCl (wX ad cA P y n (nI 1) fd1 fc1 fr1) H → va_D A (wX ad cA P y n (nI 1) fd1 fc1 fr1) → va_S A s.heap H locs → ∀ (ls : Array Slot), lv_has ls 3 [(0, .ref (ad 0)), (1, .int (nI k))] → W p l e ({ frames := 4, cells := 0, slots := 0, locals := 100 } : Room) s m ([.ref (ad 0)] : List Value).toArray below meth c H locs 0 0 (QV below A (dC, dI) (fun u : (Nat → Int64) × (Nat → Int64) × (Nat → Int64) => Good y n P u.2.1 u.2.2) (fun u : (Nat → Int64) × (Nat → Int64) × (Nat → Int64) => wX ad cA P y n (bI true) u.1 u.2.1 u.2.2) ([.ref (ad 0)] : List Value).toArray s) (F0 m 15 ls []) := by
      intro n_
      induction n_ with
      | zero =>
        intro k fd1 fc1 fr1 hk hz hlt
        exact absurd hlt (Nat.not_lt_zero _)
      | succ n_ ih_15 =>
        intro k fd1 fc1 fr1 hk hz hlt_15 H locs hP hD hS ls hl
        refine lv_iload_n hx hb dX0_learn_15 rfl (lv_at hl 1 rfl) ?_
        refine lv_iconst (v := (nI 2)) hx hb dX0_learn_16 (by decide) ?_
        refine nv_cgeN hx hb 47 (by first | omega | exact nd_lt (by omega) | exact Nat.lt_of_le_of_lt Nat.and_le_left (by omega) | exact Nat.lt_of_le_of_lt Nat.and_le_right (by omega)) (by first | omega | exact nd_lt (by omega) | exact Nat.lt_of_le_of_lt Nat.and_le_left (by omega) | exact Nat.lt_of_le_of_lt Nat.and_le_right (by omega)) dX0_learn_17 (by decide) (fun c_17 => ?_) (fun c_17 => ?_)
        · skip
          refine lv_iconst (v := (nI 0)) hx hb dX0_learn_47 (by decide) ?_
          refine lv_istore_n (lv' := [(1, .int (nI 0)), (0, .ref (ad 0))]) hx hb dX0_learn_48 rfl hl (by decide) rfl (fun ls hl => ?_)
          have loop_49 : ∀ (n_ : Nat) (r : Nat) (fd2 : Nat → Int64) (fc2 : Nat → Int64) (fr2 : Nat → Int64), (r ≤ 128) → (LInv y n P fd2 fc2 fr2 r) → 128 - r < n_ → ∀ (H : Heap) (locs : List Loc), va_P (dC, dI) vwCl (wX ad cA P y n (nI 1) fd2 fc2 fr2) H → va_D A (wX ad cA P y n (nI 1) fd2 fc2 fr2) → va_S A s.heap H locs → ∀ (ls : Array Slot), lv_has ls 3 [(0, .ref (ad 0)), (1, .int (nI r))] → W p l e ({ frames := 4, cells := 0, slots := 0, locals := 100 } : Room) s m ([.ref (ad 0)] : List Value).toArray below meth c H locs 0 0 (QV below A (dC, dI) (fun u : (Nat → Int64) × (Nat → Int64) × (Nat → Int64) => Good y n P u.2.1 u.2.2) (fun u : (Nat → Int64) × (Nat → Int64) × (Nat → Int64) => wX ad cA P y n (bI true) u.1 u.2.1 u.2.2) ([.ref (ad 0)] : List Value).toArray s) (F0 m 49 ls []) := by
            intro n_
            induction n_ with
            | zero =>
              intro r fd2 fc2 fr2 hr2 hinv hlt
              exact absurd hlt (Nat.not_lt_zero _)
            | succ n_ ih_49 =>
              intro r fd2 fc2 fr2 hr2 hinv hlt_49 H locs hP hD hS ls hl
              refine lv_iload_n hx hb dX0_learn_49 rfl (lv_at hl 1 rfl) ?_
              refine lv_sipush (v := (nI 128)) hx hb dX0_learn_50 (by decide) ?_
              refine nv_cgeN hx hb 93 (by first | omega | exact nd_lt (by omega) | exact Nat.lt_of_le_of_lt Nat.and_le_left (by omega) | exact Nat.lt_of_le_of_lt Nat.and_le_right (by omega)) (by first | omega | exact nd_lt (by omega) | exact Nat.lt_of_le_of_lt Nat.and_le_left (by omega) | exact Nat.lt_of_le_of_lt Nat.and_le_right (by omega)) dX0_learn_53 (by decide) (fun c_53 => ?_) (fun c_53 => ?_)
              · skip
                exact mv_ret hx hb hr hlocks hS (fd2, fc2, fr2) hP hD (linv_full hp7 hinv c_53) dX0_learn_93
              · skip
                refine lv_aload_n hx hb dX0_learn_56 rfl (lv_at hl 0 rfl) ?_
                refine pi_callV (ws0 := (wX ad cA P y n (nI 1) fd2 fc2 fr2)) (rest := []) ⟨hx, hb, hml, hown, hts⟩ [] (mX0_undecided l dC dI ad cA P y n (nI 1) fd2 fc2 fr2 hp7) (lw_V q100 q102 qs5 q19 q103) hdX0_undecided ⟨Nat.le_of_ble_eq_true rfl, Nat.le_of_ble_eq_true rfl⟩ ⟨rfl, rfl⟩ hK hP (q0 := 0) (ci := 0) rfl rfl rfl hl.1 rfl (Nat.le_of_ble_eq_true rfl) dX0_learn_57 ⟨Nat.zero_le _, Nat.zero_le _⟩ hP hS (fun H locs hP hS => ?_)
                refine lv_istore_n (lv' := [(2, .int (oI (undN (undB P fd2) 128))), (0, .ref (ad 0)), (1, .int (nI r))]) hx hb dX0_learn_60 rfl hl (by decide) rfl (fun ls hl => ?_)
                refine lv_iload_n hx hb dX0_learn_61 rfl (lv_at hl 0 rfl) ?_
                refine nv_geO hx hb 66 (fun j hj => Nat.lt_trans (undN_lt hj) (by decide)) dX0_learn_62 (by decide) (fun k_62 c_62 => ?_) (fun c_62 => ?_)
                · skip
                  have hl : lv_has ls 3 [(2, .int (nI k_62)), (0, .ref (ad 0)), (1, .int (nI r))] := by rw [c_62] at hl; exact hl
                  have hsd := und_some c_62
                  refine lv_aload_n hx hb dX0_learn_66 rfl (lv_at hl 1 rfl) ?_
                  refine lv_iload_n hx hb dX0_learn_67 rfl (lv_at hl 0 rfl) ?_
                  refine pi_callV (ws0 := (wX ad cA P y n (nI 1) fd2 fc2 fr2)) (rest := []) ⟨hx, hb, hml, hown, hts⟩ [.int (nI k_62)] (mX0_holdsTogether l dC dI ad cA P y n (nI 1) fd2 fc2 fr2 k_62 hy hn) (lw_V q76 q78 qs1 q19 q79) hdX0_holdsTogether ⟨Nat.le_of_ble_eq_true rfl, Nat.le_of_ble_eq_true rfl⟩ ⟨rfl, rfl⟩ hK hP (q0 := 0) (ci := 0) rfl rfl rfl hl.1 rfl (Nat.le_of_ble_eq_true rfl) dX0_learn_68 ⟨Nat.zero_le _, Nat.zero_le _⟩ hP hS (fun H locs hP hS => ?_)
                  refine nv_eqB hx hb 82 dX0_learn_71 (by decide) (fun c_71 => ?_) (fun c_71 => ?_)
                  · skip
                    refine lv_aload_n hx hb dX0_learn_82 rfl (lv_at hl 1 rfl) ?_
                    refine lv_iload_n hx hb dX0_learn_83 rfl (lv_at hl 0 rfl) ?_
                    refine mv_callV (ws0 := (wX ad cA P y n (nI 1) fd2 fc2 fr2)) (wr := []) (rest := []) ⟨hx, hb, hml, hown, hts⟩ [.int (nI k_62)] (fun sz => (mX0_shrink l dC dI ad cA P y n (nI 1) fd2 fc2 fr2 k_62 hp7 hy hn hsd.1 c_71 sz)) (lw_V q115 q117 qs8 q19 q118) hdX0_shrink ⟨Nat.le_of_ble_eq_true rfl, Nat.le_of_ble_eq_true rfl⟩ ⟨rfl, rfl⟩ hK [0, 1, 2, 3, 4, 5] [] rfl rfl rfl rfl (fun _ h => absurd h List.not_mem_nil) rfl (q0 := 0) (ci := 0) rfl rfl rfl hl.1 rfl (Nat.le_of_ble_eq_true rfl) dX0_learn_84 ⟨Nat.zero_le _, Nat.zero_le _⟩ hA hP hD hS (fun u_84 H locs hu_84 hP hD hS => ?_)
                    have hP : va_P (dC, dI) vwCl (wX ad cA P y n (nI 1) u_84.1 u_84.2 fr2) H := hP
                    have hD : va_D A (wX ad cA P y n (nI 1) u_84.1 u_84.2 fr2) := hD
                    refine lv_iinc (v := (nI (r + 1))) (lv' := [(1, .int (nI (r + 1))), (2, .int (nI k_62)), (0, .ref (ad 0))]) hx hb dX0_learn_87 hl (k := 2) rfl (nI_1 r) (by decide) rfl (fun ls hl => ?_)
                    refine lv_goto (tgt := 49) hx hb dX0_learn_90 (by decide) ?_
                    exact ih_49 (r + 1) u_84.1 u_84.2 fr2 (by omega) (linv_shrink hinv c_62 hu_84) (by omega) _ _ hP hD hS ls (lv_sub hl [2, 0] rfl)
                  · skip
                    refine lv_aload_n hx hb dX0_learn_74 rfl (lv_at hl 1 rfl) ?_
                    refine lv_iload_n hx hb dX0_learn_75 rfl (lv_at hl 0 rfl) ?_
                    refine mv_callV (ws0 := (wX ad cA P y n (nI 1) fd2 fc2 fr2)) (wr := []) (rest := []) ⟨hx, hb, hml, hown, hts⟩ [.int (nI k_62)] (fun sz => (mX0_grow l dC dI ad cA P y n (nI 1) fd2 fc2 fr2 k_62 hp7 hy hn hsd.2.1 c_71 sz)) (lw_V q111 q113 qs7 q19 q114) hdX0_grow ⟨Nat.le_of_ble_eq_true rfl, Nat.le_of_ble_eq_true rfl⟩ ⟨rfl, rfl⟩ hK [0, 1, 2, 3, 4, 5] [] rfl rfl rfl rfl (fun _ h => absurd h List.not_mem_nil) rfl (q0 := 0) (ci := 0) rfl rfl rfl hl.1 rfl (Nat.le_of_ble_eq_true rfl) dX0_learn_76 ⟨Nat.zero_le _, Nat.zero_le _⟩ hA hP hD hS (fun u_76 H locs hu_76 hP hD hS => ?_)
                    have hP : va_P (dC, dI) vwCl (wX ad cA P y n (nI 1) u_76.1 fc2 u_76.2) H := hP
                    have hD : va_D A (wX ad cA P y n (nI 1) u_76.1 fc2 u_76.2) := hD
                    refine lv_goto (tgt := 87) hx hb dX0_learn_79 (by decide) ?_
                    refine lv_iinc (v := (nI (r + 1))) (lv' := [(1, .int (nI (r + 1))), (2, .int (nI k_62)), (0, .ref (ad 0))]) hx hb dX0_learn_87 hl (k := 2) rfl (nI_1 r) (by decide) rfl (fun ls hl => ?_)
                    refine lv_goto (tgt := 49) hx hb dX0_learn_90 (by decide) ?_
                    exact ih_49 (r + 1) u_76.1 fc2 u_76.2 (by omega) (linv_grow hp7 hinv c_62 hu_76) (by omega) _ _ hP hD hS ls (lv_sub hl [2, 0] rfl)
                · skip
                  exact mv_ret hx hb hr hlocks hS (fd2, fc2, fr2) hP hD (linv_none hp7 hinv c_62) dX0_learn_65
          exact loop_49 (128 - 0 + 1) 0 fd1 fc1 fr1 (by omega) (linv_0 (fun w hw => hz w (by omega))) (Nat.lt_succ_self _) _ _ hP hD hS ls (lv_sub hl [1, 0] rfl)
        · skip
          refine lv_aload_n hx hb dX0_learn_20 rfl (lv_at hl 0 rfl) ?_
          refine va_get (D := (dC, dI)) (ci := 0) (v := .ref (ad 3)) (C := RX0) (T := TX0) (N := 7) hx hb hts in_X0 hown hK hP 0 rfl rfl 4 (by decide) (hts _ q33) (fun _ h9 => h9) rfl dX0_learn_21 ?_
          refine lv_iload_n hx hb dX0_learn_24 rfl (lv_at hl 1 rfl) ?_
          refine lv_lconst (v := 0) hx hb dX0_learn_25 (by decide) ?_
          refine nv_last hx hb hK hP hD hS 3 2 rfl rfl (vp_updL fd1 k 0) (by first | omega | exact nd_lt (by omega) | exact Nat.lt_of_le_of_lt Nat.and_le_left (by omega) | exact Nat.lt_of_le_of_lt Nat.and_le_right (by omega)) (by decide) rfl dX0_learn_26 (fun H locs hP hD hS => ?_)
          have hP : va_P (dC, dI) vwCl (wX ad cA P y n (nI 1) (vp_updL fd1 k 0) fc1 fr1) H := hP
          have hD : va_D A (wX ad cA P y n (nI 1) (vp_updL fd1 k 0) fc1 fr1) := hD
          refine lv_aload_n hx hb dX0_learn_27 rfl (lv_at hl 0 rfl) ?_
          refine va_get (D := (dC, dI)) (ci := 0) (v := .ref (ad 4)) (C := RX0) (T := TX0) (N := 7) hx hb hts in_X0 hown hK hP 0 rfl rfl 5 (by decide) (hts _ q34) (fun _ h9 => h9) rfl dX0_learn_28 ?_
          refine lv_iload_n hx hb dX0_learn_31 rfl (lv_at hl 1 rfl) ?_
          refine lv_lconst (v := 0) hx hb dX0_learn_32 (by decide) ?_
          refine nv_last hx hb hK hP hD hS 4 3 rfl rfl (vp_updL fc1 k 0) (by first | omega | exact nd_lt (by omega) | exact Nat.lt_of_le_of_lt Nat.and_le_left (by omega) | exact Nat.lt_of_le_of_lt Nat.and_le_right (by omega)) (by decide) rfl dX0_learn_33 (fun H locs hP hD hS => ?_)
          have hP : va_P (dC, dI) vwCl (wX ad cA P y n (nI 1) (vp_updL fd1 k 0) (vp_updL fc1 k 0) fr1) H := hP
          have hD : va_D A (wX ad cA P y n (nI 1) (vp_updL fd1 k 0) (vp_updL fc1 k 0) fr1) := hD
          refine lv_aload_n hx hb dX0_learn_34 rfl (lv_at hl 0 rfl) ?_
          refine va_get (D := (dC, dI)) (ci := 0) (v := .ref (ad 5)) (C := RX0) (T := TX0) (N := 7) hx hb hts in_X0 hown hK hP 0 rfl rfl 6 (by decide) (hts _ q35) (fun _ h9 => h9) rfl dX0_learn_35 ?_
          refine lv_iload_n hx hb dX0_learn_38 rfl (lv_at hl 1 rfl) ?_
          refine lv_lconst (v := 0) hx hb dX0_learn_39 (by decide) ?_
          refine nv_last hx hb hK hP hD hS 5 4 rfl rfl (vp_updL fr1 k 0) (by first | omega | exact nd_lt (by omega) | exact Nat.lt_of_le_of_lt Nat.and_le_left (by omega) | exact Nat.lt_of_le_of_lt Nat.and_le_right (by omega)) (by decide) rfl dX0_learn_40 (fun H locs hP hD hS => ?_)
          have hP : va_P (dC, dI) vwCl (wX ad cA P y n (nI 1) (vp_updL fd1 k 0) (vp_updL fc1 k 0) (vp_updL fr1 k 0)) H := hP
          have hD : va_D A (wX ad cA P y n (nI 1) (vp_updL fd1 k 0) (vp_updL fc1 k 0) (vp_updL fr1 k 0)) := hD
          refine lv_iinc (v := (nI (k + 1))) (lv' := [(1, .int (nI (k + 1))), (0, .ref (ad 0))]) hx hb dX0_learn_41 hl (k := 1) rfl (nI_1 k) (by decide) rfl (fun ls hl => ?_)
          refine lv_goto (tgt := 15) hx hb dX0_learn_44 (by decide) ?_
          exact ih_15 (k + 1) (vp_updL fd1 k 0) (vp_updL fc1 k 0) (vp_updL fr1 k 0) (by omega) (zero_step hz) (by omega) _ _ hP hD hS ls (lv_sub hl [1, 0] rfl)
    exact loop_15 (2 - 0 + 1) 0 fd fc fr (by omega) (fun w h => absurd h (Nat.not_lt_zero w)) (Nat.lt_succ_self _) _ _ hP hD hS ls (lv_sub hl [1, 0] rfl)
  · skip
    subst c_4
    exact mv_ret hx hb hr hlocks hS (fd, fc, fr) hP hD (hgood rfl) dX0_learn_7
set_option maxHeartbeats 4000000 in
set_option maxRecDepth 100000 in
/-- cores() -/
theorem mX0_cores (l : Launch) (dC : Nat → ClassId) (dI : Nat → Nat → Nat) (ad : Nat → Nat) (cA : Nat → ClassId) (P : Nat) (y n : Nat → Nat) (kb : Bool) (fd fc fr : Nat → Int64) (hp7 : P < 128) (hy : ∀ k, y k < 16) (hn : ∀ k, n k < 16) (hgood : kb = true → Good y n P fc fr) (sz : Nat) : MI l yX0_cores cX0_cores 3 (some .int) ({ frames := 5, cells := 0, slots := 0, locals := 122 } : Room) [.ref (ad 0)] (dC, dI) (wX ad cA P y n (bI kb) fd fc fr) (tX cA) sz (nI (cntN (coreB y n P) 128)) (fun u : (Nat → Int64) × (Nat → Int64) × (Nat → Int64) => Good y n P u.2.1 u.2.2) (fun u : (Nat → Int64) × (Nat → Int64) × (Nat → Int64) => wX ad cA P y n (bI true) u.1 u.2.1 u.2.2) := by
  refine MI.of (by decide) (Nat.le_of_ble_eq_true rfl) ?_
  intro p e s m below meth c hx hb hr hlocks hml hown hts hK A hA H locs hP hD hS ls hl
  have hown : s.vm.findClass "CoreFinder" = some m.cls := hown
  have hl : lv_has ls 3 [(0, .ref (ad 0))] := hl
  refine lv_aload_n hx hb dX0_cores_0 rfl (lv_at hl 0 rfl) ?_
  refine mv_callV (ws0 := (wX ad cA P y n (bI kb) fd fc fr)) (wr := []) (rest := []) ⟨hx, hb, hml, hown, hts⟩ [] (fun sz => (mX0_learn l dC dI ad cA P y n kb fd fc fr hp7 hy hn hgood sz)) (lw_V q96 q98 qs4 q19 q99) hdX0_learn ⟨Nat.le_of_ble_eq_true rfl, Nat.le_of_ble_eq_true rfl⟩ ⟨rfl, rfl⟩ hK [0, 1, 2, 3, 4, 5] [] rfl rfl rfl rfl (fun _ h => absurd h List.not_mem_nil) rfl (q0 := 0) (ci := 0) rfl rfl rfl hl.1 rfl (Nat.le_of_ble_eq_true rfl) dX0_cores_1 ⟨Nat.zero_le _, Nat.zero_le _⟩ hA hP hD hS (fun u_1 H locs hu_1 hP hD hS => ?_)
  have hg : Good y n P u_1.2.1 u_1.2.2 := hu_1
  have hP : va_P (dC, dI) vwCl (wX ad cA P y n (bI true) u_1.1 u_1.2.1 u_1.2.2) H := hP
  have hD : va_D A (wX ad cA P y n (bI true) u_1.1 u_1.2.1 u_1.2.2) := hD
  refine lv_iconst (v := (nI 0)) hx hb dX0_cores_4 (by decide) ?_
  refine lv_istore_n (lv' := [(1, .int (nI 0)), (0, .ref (ad 0))]) hx hb dX0_cores_5 rfl hl (by decide) rfl (fun ls hl => ?_)
  refine lv_iconst (v := (nI 0)) hx hb dX0_cores_6 (by decide) ?_
  refine lv_istore_n (lv' := [(2, .int (nI 0)), (1, .int (nI 0)), (0, .ref (ad 0))]) hx hb dX0_cores_7 rfl hl (by decide) rfl (fun ls hl => ?_)
  have loop_8 : ∀ (n_ : Nat) (k : Nat), (k ≤ 128) → 128 - k < n_ → ∀ (H : Heap) (locs : List Loc), va_P (dC, dI) vwCl (wX ad cA P y n (bI true) u_1.1 u_1.2.1 u_1.2.2) H → va_D A (wX ad cA P y n (bI true) u_1.1 u_1.2.1 u_1.2.2) → va_S A s.heap H locs → ∀ (ls : Array Slot), lv_has ls 3 [(0, .ref (ad 0)), (1, .int (nI (cntN (coreB y n P) k))), (2, .int (nI k))] → W p l e ({ frames := 5, cells := 0, slots := 0, locals := 122 } : Room) s m ([.ref (ad 0)] : List Value).toArray below meth c H locs 0 0 (QI below A (dC, dI) (nI (cntN (coreB y n P) 128)) (fun u : (Nat → Int64) × (Nat → Int64) × (Nat → Int64) => Good y n P u.2.1 u.2.2) (fun u : (Nat → Int64) × (Nat → Int64) × (Nat → Int64) => wX ad cA P y n (bI true) u.1 u.2.1 u.2.2) ([.ref (ad 0)] : List Value).toArray s) (F0 m 8 ls []) := by
    intro n_
    induction n_ with
    | zero =>
      intro k hk hlt
      exact absurd hlt (Nat.not_lt_zero _)
    | succ n_ ih_8 =>
      intro k hk hlt_8 H locs hP hD hS ls hl
      refine lv_iload_n hx hb dX0_cores_8 rfl (lv_at hl 2 rfl) ?_
      refine lv_sipush (v := (nI 128)) hx hb dX0_cores_9 (by decide) ?_
      refine nv_cgeN hx hb 37 (by first | omega | exact nd_lt (by omega) | exact Nat.lt_of_le_of_lt Nat.and_le_left (by omega) | exact Nat.lt_of_le_of_lt Nat.and_le_right (by omega)) (by first | omega | exact nd_lt (by omega) | exact Nat.lt_of_le_of_lt Nat.and_le_left (by omega) | exact Nat.lt_of_le_of_lt Nat.and_le_right (by omega)) dX0_cores_12 (by decide) (fun c_12 => ?_) (fun c_12 => ?_)
      · skip
        refine lv_iload_n hx hb dX0_cores_37 rfl (lv_at hl 1 rfl) ?_
        exact mi_ret hx hb hr hlocks hS u_1 hP hD hg (by rw [show k = 128 by omega]) dX0_cores_38
      · skip
        refine lv_iload_n hx hb dX0_cores_15 rfl (lv_at hl 1 rfl) ?_
        refine lv_aload_n hx hb dX0_cores_16 rfl (lv_at hl 0 rfl) ?_
        refine lv_iload_n hx hb dX0_cores_17 rfl (lv_at hl 2 rfl) ?_
        refine pi_callV (ws0 := (wX ad cA P y n (bI true) u_1.1 u_1.2.1 u_1.2.2)) (rest := [.int (nI (cntN (coreB y n P) k))]) ⟨hx, hb, hml, hown, hts⟩ [.int (nI k)] (mX0_isCore l dC dI ad cA P y n (bI true) u_1.1 u_1.2.1 u_1.2.2 k (by omega)) (lw_V q119 q121 qs9 q19 q122) hdX0_isCore ⟨Nat.le_of_ble_eq_true rfl, Nat.le_of_ble_eq_true rfl⟩ ⟨rfl, rfl⟩ hK hP (q0 := 0) (ci := 0) rfl rfl rfl hl.1 rfl (Nat.le_of_ble_eq_true rfl) dX0_cores_18 ⟨Nat.zero_le _, Nat.zero_le _⟩ hP hS (fun H locs hP hS => ?_)
        refine nv_e (y := (bI (coreB y n P k))) (by rw [(hg k c_12).1]) ?_
        refine nv_eqB hx hb 28 dX0_cores_21 (by decide) (fun c_21 => ?_) (fun c_21 => ?_)
        · skip
          refine lv_iconst (v := (nI 0)) hx hb dX0_cores_28 (by decide) ?_
          refine nv_add hx hb dX0_cores_29 ?_
          refine nv_e (y := (nI (cntN (coreB y n P) (k + 1)))) (by rw [cnt_f c_21]) ?_
          refine lv_istore_n (lv' := [(1, .int (nI (cntN (coreB y n P) (k + 1)))), (0, .ref (ad 0)), (2, .int (nI k))]) hx hb dX0_cores_30 rfl hl (by decide) rfl (fun ls hl => ?_)
          refine lv_iinc (v := (nI (k + 1))) (lv' := [(2, .int (nI (k + 1))), (1, .int (nI (cntN (coreB y n P) (k + 1)))), (0, .ref (ad 0))]) hx hb dX0_cores_31 hl (k := 2) rfl (nI_1 k) (by decide) rfl (fun ls hl => ?_)
          refine lv_goto (tgt := 8) hx hb dX0_cores_34 (by decide) ?_
          exact ih_8 (k + 1) (by omega) (by omega) _ _ hP hD hS ls (lv_sub hl [2, 1, 0] rfl)
        · skip
          refine lv_iconst (v := (nI 1)) hx hb dX0_cores_24 (by decide) ?_
          refine lv_goto (tgt := 29) hx hb dX0_cores_25 (by decide) ?_
          refine nv_add hx hb dX0_cores_29 ?_
          refine nv_e (y := (nI (cntN (coreB y n P) (k + 1)))) (by rw [cnt_t c_21]) ?_
          refine lv_istore_n (lv' := [(1, .int (nI (cntN (coreB y n P) (k + 1)))), (0, .ref (ad 0)), (2, .int (nI k))]) hx hb dX0_cores_30 rfl hl (by decide) rfl (fun ls hl => ?_)
          refine lv_iinc (v := (nI (k + 1))) (lv' := [(2, .int (nI (k + 1))), (1, .int (nI (cntN (coreB y n P) (k + 1)))), (0, .ref (ad 0))]) hx hb dX0_cores_31 hl (k := 2) rfl (nI_1 k) (by decide) rfl (fun ls hl => ?_)
          refine lv_goto (tgt := 8) hx hb dX0_cores_34 (by decide) ?_
          exact ih_8 (k + 1) (by omega) (by omega) _ _ hP hD hS ls (lv_sub hl [2, 1, 0] rfl)
  exact loop_8 (128 - 0 + 1) 0 (by omega) (Nat.lt_succ_self _) _ _ hP hD hS ls (lv_sub hl [2, 1, 0] rfl)
set_option maxHeartbeats 4000000 in
set_option maxRecDepth 100000 in
/-- repairs() -/
theorem mX0_repairs (l : Launch) (dC : Nat → ClassId) (dI : Nat → Nat → Nat) (ad : Nat → Nat) (cA : Nat → ClassId) (P : Nat) (y n : Nat → Nat) (kb : Bool) (fd fc fr : Nat → Int64) (hp7 : P < 128) (hy : ∀ k, y k < 16) (hn : ∀ k, n k < 16) (hgood : kb = true → Good y n P fc fr) (sz : Nat) : MI l yX0_repairs cX0_repairs 3 (some .int) ({ frames := 5, cells := 0, slots := 0, locals := 122 } : Room) [.ref (ad 0)] (dC, dI) (wX ad cA P y n (bI kb) fd fc fr) (tX cA) sz (nI (cntN (repB y n P) 128)) (fun u : (Nat → Int64) × (Nat → Int64) × (Nat → Int64) => Good y n P u.2.1 u.2.2) (fun u : (Nat → Int64) × (Nat → Int64) × (Nat → Int64) => wX ad cA P y n (bI true) u.1 u.2.1 u.2.2) := by
  refine MI.of (by decide) (Nat.le_of_ble_eq_true rfl) ?_
  intro p e s m below meth c hx hb hr hlocks hml hown hts hK A hA H locs hP hD hS ls hl
  have hown : s.vm.findClass "CoreFinder" = some m.cls := hown
  have hl : lv_has ls 3 [(0, .ref (ad 0))] := hl
  refine lv_aload_n hx hb dX0_repairs_0 rfl (lv_at hl 0 rfl) ?_
  refine mv_callV (ws0 := (wX ad cA P y n (bI kb) fd fc fr)) (wr := []) (rest := []) ⟨hx, hb, hml, hown, hts⟩ [] (fun sz => (mX0_learn l dC dI ad cA P y n kb fd fc fr hp7 hy hn hgood sz)) (lw_V q96 q98 qs4 q19 q99) hdX0_learn ⟨Nat.le_of_ble_eq_true rfl, Nat.le_of_ble_eq_true rfl⟩ ⟨rfl, rfl⟩ hK [0, 1, 2, 3, 4, 5] [] rfl rfl rfl rfl (fun _ h => absurd h List.not_mem_nil) rfl (q0 := 0) (ci := 0) rfl rfl rfl hl.1 rfl (Nat.le_of_ble_eq_true rfl) dX0_repairs_1 ⟨Nat.zero_le _, Nat.zero_le _⟩ hA hP hD hS (fun u_1 H locs hu_1 hP hD hS => ?_)
  have hg : Good y n P u_1.2.1 u_1.2.2 := hu_1
  have hP : va_P (dC, dI) vwCl (wX ad cA P y n (bI true) u_1.1 u_1.2.1 u_1.2.2) H := hP
  have hD : va_D A (wX ad cA P y n (bI true) u_1.1 u_1.2.1 u_1.2.2) := hD
  refine lv_iconst (v := (nI 0)) hx hb dX0_repairs_4 (by decide) ?_
  refine lv_istore_n (lv' := [(1, .int (nI 0)), (0, .ref (ad 0))]) hx hb dX0_repairs_5 rfl hl (by decide) rfl (fun ls hl => ?_)
  refine lv_iconst (v := (nI 0)) hx hb dX0_repairs_6 (by decide) ?_
  refine lv_istore_n (lv' := [(2, .int (nI 0)), (1, .int (nI 0)), (0, .ref (ad 0))]) hx hb dX0_repairs_7 rfl hl (by decide) rfl (fun ls hl => ?_)
  have loop_8 : ∀ (n_ : Nat) (k : Nat), (k ≤ 128) → 128 - k < n_ → ∀ (H : Heap) (locs : List Loc), va_P (dC, dI) vwCl (wX ad cA P y n (bI true) u_1.1 u_1.2.1 u_1.2.2) H → va_D A (wX ad cA P y n (bI true) u_1.1 u_1.2.1 u_1.2.2) → va_S A s.heap H locs → ∀ (ls : Array Slot), lv_has ls 3 [(0, .ref (ad 0)), (1, .int (nI (cntN (repB y n P) k))), (2, .int (nI k))] → W p l e ({ frames := 5, cells := 0, slots := 0, locals := 122 } : Room) s m ([.ref (ad 0)] : List Value).toArray below meth c H locs 0 0 (QI below A (dC, dI) (nI (cntN (repB y n P) 128)) (fun u : (Nat → Int64) × (Nat → Int64) × (Nat → Int64) => Good y n P u.2.1 u.2.2) (fun u : (Nat → Int64) × (Nat → Int64) × (Nat → Int64) => wX ad cA P y n (bI true) u.1 u.2.1 u.2.2) ([.ref (ad 0)] : List Value).toArray s) (F0 m 8 ls []) := by
    intro n_
    induction n_ with
    | zero =>
      intro k hk hlt
      exact absurd hlt (Nat.not_lt_zero _)
    | succ n_ ih_8 =>
      intro k hk hlt_8 H locs hP hD hS ls hl
      refine lv_iload_n hx hb dX0_repairs_8 rfl (lv_at hl 2 rfl) ?_
      refine lv_sipush (v := (nI 128)) hx hb dX0_repairs_9 (by decide) ?_
      refine nv_cgeN hx hb 37 (by first | omega | exact nd_lt (by omega) | exact Nat.lt_of_le_of_lt Nat.and_le_left (by omega) | exact Nat.lt_of_le_of_lt Nat.and_le_right (by omega)) (by first | omega | exact nd_lt (by omega) | exact Nat.lt_of_le_of_lt Nat.and_le_left (by omega) | exact Nat.lt_of_le_of_lt Nat.and_le_right (by omega)) dX0_repairs_12 (by decide) (fun c_12 => ?_) (fun c_12 => ?_)
      · skip
        refine lv_iload_n hx hb dX0_repairs_37 rfl (lv_at hl 1 rfl) ?_
        exact mi_ret hx hb hr hlocks hS u_1 hP hD hg (by rw [show k = 128 by omega]) dX0_repairs_38
      · skip
        refine lv_iload_n hx hb dX0_repairs_15 rfl (lv_at hl 1 rfl) ?_
        refine lv_aload_n hx hb dX0_repairs_16 rfl (lv_at hl 0 rfl) ?_
        refine lv_iload_n hx hb dX0_repairs_17 rfl (lv_at hl 2 rfl) ?_
        refine pi_callV (ws0 := (wX ad cA P y n (bI true) u_1.1 u_1.2.1 u_1.2.2)) (rest := [.int (nI (cntN (repB y n P) k))]) ⟨hx, hb, hml, hown, hts⟩ [.int (nI k)] (mX0_isRepair l dC dI ad cA P y n (bI true) u_1.1 u_1.2.1 u_1.2.2 k (by omega)) (lw_V q131 q133 qs10 q19 q134) hdX0_isRepair ⟨Nat.le_of_ble_eq_true rfl, Nat.le_of_ble_eq_true rfl⟩ ⟨rfl, rfl⟩ hK hP (q0 := 0) (ci := 0) rfl rfl rfl hl.1 rfl (Nat.le_of_ble_eq_true rfl) dX0_repairs_18 ⟨Nat.zero_le _, Nat.zero_le _⟩ hP hS (fun H locs hP hS => ?_)
        refine nv_e (y := (bI (repB y n P k))) (by rw [(hg k c_12).2]) ?_
        refine nv_eqB hx hb 28 dX0_repairs_21 (by decide) (fun c_21 => ?_) (fun c_21 => ?_)
        · skip
          refine lv_iconst (v := (nI 0)) hx hb dX0_repairs_28 (by decide) ?_
          refine nv_add hx hb dX0_repairs_29 ?_
          refine nv_e (y := (nI (cntN (repB y n P) (k + 1)))) (by rw [cnt_f c_21]) ?_
          refine lv_istore_n (lv' := [(1, .int (nI (cntN (repB y n P) (k + 1)))), (0, .ref (ad 0)), (2, .int (nI k))]) hx hb dX0_repairs_30 rfl hl (by decide) rfl (fun ls hl => ?_)
          refine lv_iinc (v := (nI (k + 1))) (lv' := [(2, .int (nI (k + 1))), (1, .int (nI (cntN (repB y n P) (k + 1)))), (0, .ref (ad 0))]) hx hb dX0_repairs_31 hl (k := 2) rfl (nI_1 k) (by decide) rfl (fun ls hl => ?_)
          refine lv_goto (tgt := 8) hx hb dX0_repairs_34 (by decide) ?_
          exact ih_8 (k + 1) (by omega) (by omega) _ _ hP hD hS ls (lv_sub hl [2, 1, 0] rfl)
        · skip
          refine lv_iconst (v := (nI 1)) hx hb dX0_repairs_24 (by decide) ?_
          refine lv_goto (tgt := 29) hx hb dX0_repairs_25 (by decide) ?_
          refine nv_add hx hb dX0_repairs_29 ?_
          refine nv_e (y := (nI (cntN (repB y n P) (k + 1)))) (by rw [cnt_t c_21]) ?_
          refine lv_istore_n (lv' := [(1, .int (nI (cntN (repB y n P) (k + 1)))), (0, .ref (ad 0)), (2, .int (nI k))]) hx hb dX0_repairs_30 rfl hl (by decide) rfl (fun ls hl => ?_)
          refine lv_iinc (v := (nI (k + 1))) (lv' := [(2, .int (nI (k + 1))), (1, .int (nI (cntN (repB y n P) (k + 1)))), (0, .ref (ad 0))]) hx hb dX0_repairs_31 hl (k := 2) rfl (nI_1 k) (by decide) rfl (fun ls hl => ?_)
          refine lv_goto (tgt := 8) hx hb dX0_repairs_34 (by decide) ?_
          exact ih_8 (k + 1) (by omega) (by omega) _ _ hP hD hS ls (lv_sub hl [2, 1, 0] rfl)
  exact loop_8 (128 - 0 + 1) 0 (by omega) (Nat.lt_succ_self _) _ _ hP hD hS ls (lv_sub hl [2, 1, 0] rfl)
set_option maxHeartbeats 4000000 in
set_option maxRecDepth 100000 in
/-- core(k) -/
theorem mX0_core (l : Launch) (dC : Nat → ClassId) (dI : Nat → Nat → Nat) (ad : Nat → Nat) (cA : Nat → ClassId) (P : Nat) (y n : Nat → Nat) (kb : Bool) (fd fc fr : Nat → Int64) (x : Nat) (hp7 : P < 128) (hy : ∀ k, y k < 16) (hn : ∀ k, n k < 16) (hgood : kb = true → Good y n P fc fr) (hx32 : x < 2 ^ 32) (sz : Nat) : MI l yX0_core cX0_core 4 (some .int) ({ frames := 5, cells := 0, slots := 0, locals := 122 } : Room) [.ref (ad 0), .int (nI x)] (dC, dI) (wX ad cA P y n (bI kb) fd fc fr) (tX cA) sz (oI (fndN (nthB (coreB y n P) x) 128)) (fun u : (Nat → Int64) × (Nat → Int64) × (Nat → Int64) => Good y n P u.2.1 u.2.2) (fun u : (Nat → Int64) × (Nat → Int64) × (Nat → Int64) => wX ad cA P y n (bI true) u.1 u.2.1 u.2.2) := by
  refine MI.of (by decide) (Nat.le_of_ble_eq_true rfl) ?_
  intro p e s m below meth c hx hb hr hlocks hml hown hts hK A hA H locs hP hD hS ls hl
  have hown : s.vm.findClass "CoreFinder" = some m.cls := hown
  have hl : lv_has ls 4 [(0, .ref (ad 0)), (1, .int (nI x))] := hl
  refine lv_aload_n hx hb dX0_core_0 rfl (lv_at hl 0 rfl) ?_
  refine mv_callV (ws0 := (wX ad cA P y n (bI kb) fd fc fr)) (wr := []) (rest := []) ⟨hx, hb, hml, hown, hts⟩ [] (fun sz => (mX0_learn l dC dI ad cA P y n kb fd fc fr hp7 hy hn hgood sz)) (lw_V q96 q98 qs4 q19 q99) hdX0_learn ⟨Nat.le_of_ble_eq_true rfl, Nat.le_of_ble_eq_true rfl⟩ ⟨rfl, rfl⟩ hK [0, 1, 2, 3, 4, 5] [] rfl rfl rfl rfl (fun _ h => absurd h List.not_mem_nil) rfl (q0 := 0) (ci := 0) rfl rfl rfl hl.1 rfl (Nat.le_of_ble_eq_true rfl) dX0_core_1 ⟨Nat.zero_le _, Nat.zero_le _⟩ hA hP hD hS (fun u_1 H locs hu_1 hP hD hS => ?_)
  have hg : Good y n P u_1.2.1 u_1.2.2 := hu_1
  have hP : va_P (dC, dI) vwCl (wX ad cA P y n (bI true) u_1.1 u_1.2.1 u_1.2.2) H := hP
  have hD : va_D A (wX ad cA P y n (bI true) u_1.1 u_1.2.1 u_1.2.2) := hD
  refine lv_iconst (v := (nI 0)) hx hb dX0_core_4 (by decide) ?_
  refine lv_istore_n (lv' := [(2, .int (nI 0)), (0, .ref (ad 0)), (1, .int (nI x))]) hx hb dX0_core_5 rfl hl (by decide) rfl (fun ls hl => ?_)
  refine lv_iconst (v := (nI 0)) hx hb dX0_core_6 (by decide) ?_
  refine lv_istore_n (lv' := [(3, .int (nI 0)), (2, .int (nI 0)), (0, .ref (ad 0)), (1, .int (nI x))]) hx hb dX0_core_7 rfl hl (by decide) rfl (fun ls hl => ?_)
  have loop_8 : ∀ (n_ : Nat) (q : Nat) (k : Nat), (k ≤ 128) → (q = cntN (coreB y n P) k) → (∀ t, t < k → nthB (coreB y n P) x t = false) → 128 - k < n_ → ∀ (H : Heap) (locs : List Loc), va_P (dC, dI) vwCl (wX ad cA P y n (bI true) u_1.1 u_1.2.1 u_1.2.2) H → va_D A (wX ad cA P y n (bI true) u_1.1 u_1.2.1 u_1.2.2) → va_S A s.heap H locs → ∀ (ls : Array Slot), lv_has ls 4 [(0, .ref (ad 0)), (1, .int (nI x)), (2, .int (nI q)), (3, .int (nI k))] → W p l e ({ frames := 5, cells := 0, slots := 0, locals := 122 } : Room) s m ([.ref (ad 0), .int (nI x)] : List Value).toArray below meth c H locs 0 0 (QI below A (dC, dI) (oI (fndN (nthB (coreB y n P) x) 128)) (fun u : (Nat → Int64) × (Nat → Int64) × (Nat → Int64) => Good y n P u.2.1 u.2.2) (fun u : (Nat → Int64) × (Nat → Int64) × (Nat → Int64) => wX ad cA P y n (bI true) u.1 u.2.1 u.2.2) ([.ref (ad 0), .int (nI x)] : List Value).toArray s) (F0 m 8 ls []) := by
    intro n_
    induction n_ with
    | zero =>
      intro q k hk hq hno hlt
      exact absurd hlt (Nat.not_lt_zero _)
    | succ n_ ih_8 =>
      intro q k hk hq hno hlt_8 H locs hP hD hS ls hl
      refine lv_iload_n hx hb dX0_core_8 rfl (lv_at hl 3 rfl) ?_
      refine lv_sipush (v := (nI 128)) hx hb dX0_core_9 (by decide) ?_
      refine nv_cgeN hx hb 39 (by first | omega | exact nd_lt (by omega) | exact Nat.lt_of_le_of_lt Nat.and_le_left (by omega) | exact Nat.lt_of_le_of_lt Nat.and_le_right (by omega)) (by first | omega | exact nd_lt (by omega) | exact Nat.lt_of_le_of_lt Nat.and_le_left (by omega) | exact Nat.lt_of_le_of_lt Nat.and_le_right (by omega)) dX0_core_12 (by decide) (fun c_12 => ?_) (fun c_12 => ?_)
      · skip
        refine lv_iconst (v := (-1)) hx hb dX0_core_39 (by decide) ?_
        exact mi_ret hx hb hr hlocks hS u_1 hP hD hg (by rw [nth_miss c_12 hno]; rfl) dX0_core_40
      · skip
        refine lv_aload_n hx hb dX0_core_15 rfl (lv_at hl 0 rfl) ?_
        refine lv_iload_n hx hb dX0_core_16 rfl (lv_at hl 3 rfl) ?_
        refine pi_callV (ws0 := (wX ad cA P y n (bI true) u_1.1 u_1.2.1 u_1.2.2)) (rest := []) ⟨hx, hb, hml, hown, hts⟩ [.int (nI k)] (mX0_isCore l dC dI ad cA P y n (bI true) u_1.1 u_1.2.1 u_1.2.2 k (by omega)) (lw_V q119 q121 qs9 q19 q122) hdX0_isCore ⟨Nat.le_of_ble_eq_true rfl, Nat.le_of_ble_eq_true rfl⟩ ⟨rfl, rfl⟩ hK hP (q0 := 0) (ci := 0) rfl rfl rfl hl.1 rfl (Nat.le_of_ble_eq_true rfl) dX0_core_17 ⟨Nat.zero_le _, Nat.zero_le _⟩ hP hS (fun H locs hP hS => ?_)
        refine nv_e (y := (bI (coreB y n P k))) (by rw [(hg k c_12).1]) ?_
        refine nv_eqB hx hb 33 dX0_core_20 (by decide) (fun c_20 => ?_) (fun c_20 => ?_)
        · skip
          refine lv_iinc (v := (nI (k + 1))) (lv' := [(3, .int (nI (k + 1))), (0, .ref (ad 0)), (1, .int (nI x)), (2, .int (nI q))]) hx hb dX0_core_33 hl (k := 3) rfl (nI_1 k) (by decide) rfl (fun ls hl => ?_)
          refine lv_goto (tgt := 8) hx hb dX0_core_36 (by decide) ?_
          exact ih_8 q (k + 1) (by omega) (hq.trans (cnt_f' c_20)) (lt_step hno (by simp [nthB, c_20])) (by omega) _ _ hP hD hS ls (lv_sub hl [1, 2, 3, 0] rfl)
        · skip
          refine lv_iload_n hx hb dX0_core_23 rfl (lv_at hl 2 rfl) ?_
          refine lv_iload_n hx hb dX0_core_24 rfl (lv_at hl 1 rfl) ?_
          refine nv_cneN hx hb 30 (by rw [hq]; exact Nat.lt_of_le_of_lt (cntN_le _ _) (by omega)) hx32 dX0_core_25 (by decide) (fun c_25 => ?_) (fun c_25 => ?_)
          · skip
            refine lv_iinc (v := (nI (q + 1))) (lv' := [(2, .int (nI (q + 1))), (0, .ref (ad 0)), (1, .int (nI x)), (3, .int (nI k))]) hx hb dX0_core_30 hl (k := 2) rfl (nI_1 q) (by decide) rfl (fun ls hl => ?_)
            refine lv_iinc (v := (nI (k + 1))) (lv' := [(3, .int (nI (k + 1))), (2, .int (nI (q + 1))), (0, .ref (ad 0)), (1, .int (nI x))]) hx hb dX0_core_33 hl (k := 3) rfl (nI_1 k) (by decide) rfl (fun ls hl => ?_)
            refine lv_goto (tgt := 8) hx hb dX0_core_36 (by decide) ?_
            exact ih_8 (q + 1) (k + 1) (by omega) (by rw [hq, cnt_t c_20]) (lt_step hno (by simp [nthB, c_20, ← hq, c_25])) (by omega) _ _ hP hD hS ls (lv_sub hl [2, 3, 1, 0] rfl)
          · skip
            refine lv_iload_n hx hb dX0_core_28 rfl (lv_at hl 3 rfl) ?_
            exact mi_ret hx hb hr hlocks hS u_1 hP hD hg (by rw [nth_hit c_12 hno c_20 (hq.symm.trans c_25)]; rfl) dX0_core_29
  exact loop_8 (128 - 0 + 1) 0 0 (by omega) rfl (fun t h => absurd h (Nat.not_lt_zero t)) (Nat.lt_succ_self _) _ _ hP hD hS ls (lv_sub hl [2, 3, 1, 0] rfl)
set_option maxHeartbeats 4000000 in
set_option maxRecDepth 100000 in
/-- repair(k) -/
theorem mX0_repair (l : Launch) (dC : Nat → ClassId) (dI : Nat → Nat → Nat) (ad : Nat → Nat) (cA : Nat → ClassId) (P : Nat) (y n : Nat → Nat) (kb : Bool) (fd fc fr : Nat → Int64) (x : Nat) (hp7 : P < 128) (hy : ∀ k, y k < 16) (hn : ∀ k, n k < 16) (hgood : kb = true → Good y n P fc fr) (hx32 : x < 2 ^ 32) (sz : Nat) : MI l yX0_repair cX0_repair 4 (some .int) ({ frames := 5, cells := 0, slots := 0, locals := 122 } : Room) [.ref (ad 0), .int (nI x)] (dC, dI) (wX ad cA P y n (bI kb) fd fc fr) (tX cA) sz (oI (fndN (nthB (repB y n P) x) 128)) (fun u : (Nat → Int64) × (Nat → Int64) × (Nat → Int64) => Good y n P u.2.1 u.2.2) (fun u : (Nat → Int64) × (Nat → Int64) × (Nat → Int64) => wX ad cA P y n (bI true) u.1 u.2.1 u.2.2) := by
  refine MI.of (by decide) (Nat.le_of_ble_eq_true rfl) ?_
  intro p e s m below meth c hx hb hr hlocks hml hown hts hK A hA H locs hP hD hS ls hl
  have hown : s.vm.findClass "CoreFinder" = some m.cls := hown
  have hl : lv_has ls 4 [(0, .ref (ad 0)), (1, .int (nI x))] := hl
  refine lv_aload_n hx hb dX0_repair_0 rfl (lv_at hl 0 rfl) ?_
  refine mv_callV (ws0 := (wX ad cA P y n (bI kb) fd fc fr)) (wr := []) (rest := []) ⟨hx, hb, hml, hown, hts⟩ [] (fun sz => (mX0_learn l dC dI ad cA P y n kb fd fc fr hp7 hy hn hgood sz)) (lw_V q96 q98 qs4 q19 q99) hdX0_learn ⟨Nat.le_of_ble_eq_true rfl, Nat.le_of_ble_eq_true rfl⟩ ⟨rfl, rfl⟩ hK [0, 1, 2, 3, 4, 5] [] rfl rfl rfl rfl (fun _ h => absurd h List.not_mem_nil) rfl (q0 := 0) (ci := 0) rfl rfl rfl hl.1 rfl (Nat.le_of_ble_eq_true rfl) dX0_repair_1 ⟨Nat.zero_le _, Nat.zero_le _⟩ hA hP hD hS (fun u_1 H locs hu_1 hP hD hS => ?_)
  have hg : Good y n P u_1.2.1 u_1.2.2 := hu_1
  have hP : va_P (dC, dI) vwCl (wX ad cA P y n (bI true) u_1.1 u_1.2.1 u_1.2.2) H := hP
  have hD : va_D A (wX ad cA P y n (bI true) u_1.1 u_1.2.1 u_1.2.2) := hD
  refine lv_iconst (v := (nI 0)) hx hb dX0_repair_4 (by decide) ?_
  refine lv_istore_n (lv' := [(2, .int (nI 0)), (0, .ref (ad 0)), (1, .int (nI x))]) hx hb dX0_repair_5 rfl hl (by decide) rfl (fun ls hl => ?_)
  refine lv_iconst (v := (nI 0)) hx hb dX0_repair_6 (by decide) ?_
  refine lv_istore_n (lv' := [(3, .int (nI 0)), (2, .int (nI 0)), (0, .ref (ad 0)), (1, .int (nI x))]) hx hb dX0_repair_7 rfl hl (by decide) rfl (fun ls hl => ?_)
  have loop_8 : ∀ (n_ : Nat) (q : Nat) (k : Nat), (k ≤ 128) → (q = cntN (repB y n P) k) → (∀ t, t < k → nthB (repB y n P) x t = false) → 128 - k < n_ → ∀ (H : Heap) (locs : List Loc), va_P (dC, dI) vwCl (wX ad cA P y n (bI true) u_1.1 u_1.2.1 u_1.2.2) H → va_D A (wX ad cA P y n (bI true) u_1.1 u_1.2.1 u_1.2.2) → va_S A s.heap H locs → ∀ (ls : Array Slot), lv_has ls 4 [(0, .ref (ad 0)), (1, .int (nI x)), (2, .int (nI q)), (3, .int (nI k))] → W p l e ({ frames := 5, cells := 0, slots := 0, locals := 122 } : Room) s m ([.ref (ad 0), .int (nI x)] : List Value).toArray below meth c H locs 0 0 (QI below A (dC, dI) (oI (fndN (nthB (repB y n P) x) 128)) (fun u : (Nat → Int64) × (Nat → Int64) × (Nat → Int64) => Good y n P u.2.1 u.2.2) (fun u : (Nat → Int64) × (Nat → Int64) × (Nat → Int64) => wX ad cA P y n (bI true) u.1 u.2.1 u.2.2) ([.ref (ad 0), .int (nI x)] : List Value).toArray s) (F0 m 8 ls []) := by
    intro n_
    induction n_ with
    | zero =>
      intro q k hk hq hno hlt
      exact absurd hlt (Nat.not_lt_zero _)
    | succ n_ ih_8 =>
      intro q k hk hq hno hlt_8 H locs hP hD hS ls hl
      refine lv_iload_n hx hb dX0_repair_8 rfl (lv_at hl 3 rfl) ?_
      refine lv_sipush (v := (nI 128)) hx hb dX0_repair_9 (by decide) ?_
      refine nv_cgeN hx hb 39 (by first | omega | exact nd_lt (by omega) | exact Nat.lt_of_le_of_lt Nat.and_le_left (by omega) | exact Nat.lt_of_le_of_lt Nat.and_le_right (by omega)) (by first | omega | exact nd_lt (by omega) | exact Nat.lt_of_le_of_lt Nat.and_le_left (by omega) | exact Nat.lt_of_le_of_lt Nat.and_le_right (by omega)) dX0_repair_12 (by decide) (fun c_12 => ?_) (fun c_12 => ?_)
      · skip
        refine lv_iconst (v := (-1)) hx hb dX0_repair_39 (by decide) ?_
        exact mi_ret hx hb hr hlocks hS u_1 hP hD hg (by rw [nth_miss c_12 hno]; rfl) dX0_repair_40
      · skip
        refine lv_aload_n hx hb dX0_repair_15 rfl (lv_at hl 0 rfl) ?_
        refine lv_iload_n hx hb dX0_repair_16 rfl (lv_at hl 3 rfl) ?_
        refine pi_callV (ws0 := (wX ad cA P y n (bI true) u_1.1 u_1.2.1 u_1.2.2)) (rest := []) ⟨hx, hb, hml, hown, hts⟩ [.int (nI k)] (mX0_isRepair l dC dI ad cA P y n (bI true) u_1.1 u_1.2.1 u_1.2.2 k (by omega)) (lw_V q131 q133 qs10 q19 q134) hdX0_isRepair ⟨Nat.le_of_ble_eq_true rfl, Nat.le_of_ble_eq_true rfl⟩ ⟨rfl, rfl⟩ hK hP (q0 := 0) (ci := 0) rfl rfl rfl hl.1 rfl (Nat.le_of_ble_eq_true rfl) dX0_repair_17 ⟨Nat.zero_le _, Nat.zero_le _⟩ hP hS (fun H locs hP hS => ?_)
        refine nv_e (y := (bI (repB y n P k))) (by rw [(hg k c_12).2]) ?_
        refine nv_eqB hx hb 33 dX0_repair_20 (by decide) (fun c_20 => ?_) (fun c_20 => ?_)
        · skip
          refine lv_iinc (v := (nI (k + 1))) (lv' := [(3, .int (nI (k + 1))), (0, .ref (ad 0)), (1, .int (nI x)), (2, .int (nI q))]) hx hb dX0_repair_33 hl (k := 3) rfl (nI_1 k) (by decide) rfl (fun ls hl => ?_)
          refine lv_goto (tgt := 8) hx hb dX0_repair_36 (by decide) ?_
          exact ih_8 q (k + 1) (by omega) (hq.trans (cnt_f' c_20)) (lt_step hno (by simp [nthB, c_20])) (by omega) _ _ hP hD hS ls (lv_sub hl [1, 2, 3, 0] rfl)
        · skip
          refine lv_iload_n hx hb dX0_repair_23 rfl (lv_at hl 2 rfl) ?_
          refine lv_iload_n hx hb dX0_repair_24 rfl (lv_at hl 1 rfl) ?_
          refine nv_cneN hx hb 30 (by rw [hq]; exact Nat.lt_of_le_of_lt (cntN_le _ _) (by omega)) hx32 dX0_repair_25 (by decide) (fun c_25 => ?_) (fun c_25 => ?_)
          · skip
            refine lv_iinc (v := (nI (q + 1))) (lv' := [(2, .int (nI (q + 1))), (0, .ref (ad 0)), (1, .int (nI x)), (3, .int (nI k))]) hx hb dX0_repair_30 hl (k := 2) rfl (nI_1 q) (by decide) rfl (fun ls hl => ?_)
            refine lv_iinc (v := (nI (k + 1))) (lv' := [(3, .int (nI (k + 1))), (2, .int (nI (q + 1))), (0, .ref (ad 0)), (1, .int (nI x))]) hx hb dX0_repair_33 hl (k := 3) rfl (nI_1 k) (by decide) rfl (fun ls hl => ?_)
            refine lv_goto (tgt := 8) hx hb dX0_repair_36 (by decide) ?_
            exact ih_8 (q + 1) (k + 1) (by omega) (by rw [hq, cnt_t c_20]) (lt_step hno (by simp [nthB, c_20, ← hq, c_25])) (by omega) _ _ hP hD hS ls (lv_sub hl [2, 3, 1, 0] rfl)
          · skip
            refine lv_iload_n hx hb dX0_repair_28 rfl (lv_at hl 3 rfl) ?_
            exact mi_ret hx hb hr hlocks hS u_1 hP hD hg (by rw [nth_hit c_12 hno c_20 (hq.symm.trans c_25)]; rfl) dX0_repair_29
  exact loop_8 (128 - 0 + 1) 0 0 (by omega) rfl (fun t h => absurd h (Nat.not_lt_zero t)) (Nat.lt_succ_self _) _ _ hP hD hS ls (lv_sub hl [2, 3, 1, 0] rfl)
set_option maxHeartbeats 4000000 in
set_option maxRecDepth 100000 in
/-- guilty() -/
theorem mX0_guilty (l : Launch) (dC : Nat → ClassId) (dI : Nat → Nat → Nat) (ad : Nat → Nat) (cA : Nat → ClassId) (P : Nat) (y n : Nat → Nat) (kb : Bool) (fd fc fr : Nat → Int64) (hp7 : P < 128) (hy : ∀ k, y k < 16) (hn : ∀ k, n k < 16) (hgood : kb = true → Good y n P fc fr) (sz : Nat) : MI l yX0_guilty cX0_guilty 3 (some .int) ({ frames := 5, cells := 0, slots := 0, locals := 122 } : Room) [.ref (ad 0)] (dC, dI) (wX ad cA P y n (bI kb) fd fc fr) (tX cA) sz (nI (orN (coreB y n P) 128)) (fun u : (Nat → Int64) × (Nat → Int64) × (Nat → Int64) => Good y n P u.2.1 u.2.2) (fun u : (Nat → Int64) × (Nat → Int64) × (Nat → Int64) => wX ad cA P y n (bI true) u.1 u.2.1 u.2.2) := by
  refine MI.of (by decide) (Nat.le_of_ble_eq_true rfl) ?_
  intro p e s m below meth c hx hb hr hlocks hml hown hts hK A hA H locs hP hD hS ls hl
  have hown : s.vm.findClass "CoreFinder" = some m.cls := hown
  have hl : lv_has ls 3 [(0, .ref (ad 0))] := hl
  refine lv_aload_n hx hb dX0_guilty_0 rfl (lv_at hl 0 rfl) ?_
  refine mv_callV (ws0 := (wX ad cA P y n (bI kb) fd fc fr)) (wr := []) (rest := []) ⟨hx, hb, hml, hown, hts⟩ [] (fun sz => (mX0_learn l dC dI ad cA P y n kb fd fc fr hp7 hy hn hgood sz)) (lw_V q96 q98 qs4 q19 q99) hdX0_learn ⟨Nat.le_of_ble_eq_true rfl, Nat.le_of_ble_eq_true rfl⟩ ⟨rfl, rfl⟩ hK [0, 1, 2, 3, 4, 5] [] rfl rfl rfl rfl (fun _ h => absurd h List.not_mem_nil) rfl (q0 := 0) (ci := 0) rfl rfl rfl hl.1 rfl (Nat.le_of_ble_eq_true rfl) dX0_guilty_1 ⟨Nat.zero_le _, Nat.zero_le _⟩ hA hP hD hS (fun u_1 H locs hu_1 hP hD hS => ?_)
  have hg : Good y n P u_1.2.1 u_1.2.2 := hu_1
  have hP : va_P (dC, dI) vwCl (wX ad cA P y n (bI true) u_1.1 u_1.2.1 u_1.2.2) H := hP
  have hD : va_D A (wX ad cA P y n (bI true) u_1.1 u_1.2.1 u_1.2.2) := hD
  refine lv_iconst (v := (nI 0)) hx hb dX0_guilty_4 (by decide) ?_
  refine lv_istore_n (lv' := [(1, .int (nI 0)), (0, .ref (ad 0))]) hx hb dX0_guilty_5 rfl hl (by decide) rfl (fun ls hl => ?_)
  refine lv_iconst (v := (nI 0)) hx hb dX0_guilty_6 (by decide) ?_
  refine lv_istore_n (lv' := [(2, .int (nI 0)), (1, .int (nI 0)), (0, .ref (ad 0))]) hx hb dX0_guilty_7 rfl hl (by decide) rfl (fun ls hl => ?_)
  have loop_8 : ∀ (n_ : Nat) (k : Nat), (k ≤ 128) → 128 - k < n_ → ∀ (H : Heap) (locs : List Loc), va_P (dC, dI) vwCl (wX ad cA P y n (bI true) u_1.1 u_1.2.1 u_1.2.2) H → va_D A (wX ad cA P y n (bI true) u_1.1 u_1.2.1 u_1.2.2) → va_S A s.heap H locs → ∀ (ls : Array Slot), lv_has ls 3 [(0, .ref (ad 0)), (1, .int (nI (orN (coreB y n P) k))), (2, .int (nI k))] → W p l e ({ frames := 5, cells := 0, slots := 0, locals := 122 } : Room) s m ([.ref (ad 0)] : List Value).toArray below meth c H locs 0 0 (QI below A (dC, dI) (nI (orN (coreB y n P) 128)) (fun u : (Nat → Int64) × (Nat → Int64) × (Nat → Int64) => Good y n P u.2.1 u.2.2) (fun u : (Nat → Int64) × (Nat → Int64) × (Nat → Int64) => wX ad cA P y n (bI true) u.1 u.2.1 u.2.2) ([.ref (ad 0)] : List Value).toArray s) (F0 m 8 ls []) := by
    intro n_
    induction n_ with
    | zero =>
      intro k hk hlt
      exact absurd hlt (Nat.not_lt_zero _)
    | succ n_ ih_8 =>
      intro k hk hlt_8 H locs hP hD hS ls hl
      refine lv_iload_n hx hb dX0_guilty_8 rfl (lv_at hl 2 rfl) ?_
      refine lv_sipush (v := (nI 128)) hx hb dX0_guilty_9 (by decide) ?_
      refine nv_cgeN hx hb 37 (by first | omega | exact nd_lt (by omega) | exact Nat.lt_of_le_of_lt Nat.and_le_left (by omega) | exact Nat.lt_of_le_of_lt Nat.and_le_right (by omega)) (by first | omega | exact nd_lt (by omega) | exact Nat.lt_of_le_of_lt Nat.and_le_left (by omega) | exact Nat.lt_of_le_of_lt Nat.and_le_right (by omega)) dX0_guilty_12 (by decide) (fun c_12 => ?_) (fun c_12 => ?_)
      · skip
        refine lv_iload_n hx hb dX0_guilty_37 rfl (lv_at hl 1 rfl) ?_
        exact mi_ret hx hb hr hlocks hS u_1 hP hD hg (by rw [show k = 128 by omega]) dX0_guilty_38
      · skip
        refine lv_iload_n hx hb dX0_guilty_15 rfl (lv_at hl 1 rfl) ?_
        refine lv_aload_n hx hb dX0_guilty_16 rfl (lv_at hl 0 rfl) ?_
        refine lv_iload_n hx hb dX0_guilty_17 rfl (lv_at hl 2 rfl) ?_
        refine pi_callV (ws0 := (wX ad cA P y n (bI true) u_1.1 u_1.2.1 u_1.2.2)) (rest := [.int (nI (orN (coreB y n P) k))]) ⟨hx, hb, hml, hown, hts⟩ [.int (nI k)] (mX0_isCore l dC dI ad cA P y n (bI true) u_1.1 u_1.2.1 u_1.2.2 k (by omega)) (lw_V q119 q121 qs9 q19 q122) hdX0_isCore ⟨Nat.le_of_ble_eq_true rfl, Nat.le_of_ble_eq_true rfl⟩ ⟨rfl, rfl⟩ hK hP (q0 := 0) (ci := 0) rfl rfl rfl hl.1 rfl (Nat.le_of_ble_eq_true rfl) dX0_guilty_18 ⟨Nat.zero_le _, Nat.zero_le _⟩ hP hS (fun H locs hP hS => ?_)
        refine nv_e (y := (bI (coreB y n P k))) (by rw [(hg k c_12).1]) ?_
        refine nv_eqB hx hb 28 dX0_guilty_21 (by decide) (fun c_21 => ?_) (fun c_21 => ?_)
        · skip
          refine lv_iconst (v := (nI 0)) hx hb dX0_guilty_28 (by decide) ?_
          refine nv_or hx hb dX0_guilty_29 ?_
          refine nv_e (y := (nI (orN (coreB y n P) (k + 1)))) (by rw [or_f c_21]) ?_
          refine lv_istore_n (lv' := [(1, .int (nI (orN (coreB y n P) (k + 1)))), (0, .ref (ad 0)), (2, .int (nI k))]) hx hb dX0_guilty_30 rfl hl (by decide) rfl (fun ls hl => ?_)
          refine lv_iinc (v := (nI (k + 1))) (lv' := [(2, .int (nI (k + 1))), (1, .int (nI (orN (coreB y n P) (k + 1)))), (0, .ref (ad 0))]) hx hb dX0_guilty_31 hl (k := 2) rfl (nI_1 k) (by decide) rfl (fun ls hl => ?_)
          refine lv_goto (tgt := 8) hx hb dX0_guilty_34 (by decide) ?_
          exact ih_8 (k + 1) (by omega) (by omega) _ _ hP hD hS ls (lv_sub hl [2, 1, 0] rfl)
        · skip
          refine lv_iload_n hx hb dX0_guilty_24 rfl (lv_at hl 2 rfl) ?_
          refine lv_goto (tgt := 29) hx hb dX0_guilty_25 (by decide) ?_
          refine nv_or hx hb dX0_guilty_29 ?_
          refine nv_e (y := (nI (orN (coreB y n P) (k + 1)))) (by rw [or_t c_21]) ?_
          refine lv_istore_n (lv' := [(1, .int (nI (orN (coreB y n P) (k + 1)))), (0, .ref (ad 0)), (2, .int (nI k))]) hx hb dX0_guilty_30 rfl hl (by decide) rfl (fun ls hl => ?_)
          refine lv_iinc (v := (nI (k + 1))) (lv' := [(2, .int (nI (k + 1))), (1, .int (nI (orN (coreB y n P) (k + 1)))), (0, .ref (ad 0))]) hx hb dX0_guilty_31 hl (k := 2) rfl (nI_1 k) (by decide) rfl (fun ls hl => ?_)
          refine lv_goto (tgt := 8) hx hb dX0_guilty_34 (by decide) ?_
          exact ih_8 (k + 1) (by omega) (by omega) _ _ hP hD hS ls (lv_sub hl [2, 1, 0] rfl)
  exact loop_8 (128 - 0 + 1) 0 (by omega) (Nat.lt_succ_self _) _ _ hP hD hS ls (lv_sub hl [2, 1, 0] rfl)
set_option maxHeartbeats 4000000 in
set_option maxRecDepth 100000 in
/-- central() -/
theorem mX0_central (l : Launch) (dC : Nat → ClassId) (dI : Nat → Nat → Nat) (ad : Nat → Nat) (cA : Nat → ClassId) (P : Nat) (y n : Nat → Nat) (kb : Bool) (fd fc fr : Nat → Int64) (hp7 : P < 128) (hy : ∀ k, y k < 16) (hn : ∀ k, n k < 16) (hgood : kb = true → Good y n P fc fr) (sz : Nat) : MI l yX0_central cX0_central 3 (some .int) ({ frames := 5, cells := 0, slots := 0, locals := 122 } : Room) [.ref (ad 0)] (dC, dI) (wX ad cA P y n (bI kb) fd fc fr) (tX cA) sz (nI (andN P (coreB y n P) 128)) (fun u : (Nat → Int64) × (Nat → Int64) × (Nat → Int64) => Good y n P u.2.1 u.2.2) (fun u : (Nat → Int64) × (Nat → Int64) × (Nat → Int64) => wX ad cA P y n (bI true) u.1 u.2.1 u.2.2) := by
  refine MI.of (by decide) (Nat.le_of_ble_eq_true rfl) ?_
  intro p e s m below meth c hx hb hr hlocks hml hown hts hK A hA H locs hP hD hS ls hl
  have hown : s.vm.findClass "CoreFinder" = some m.cls := hown
  have hl : lv_has ls 3 [(0, .ref (ad 0))] := hl
  refine lv_aload_n hx hb dX0_central_0 rfl (lv_at hl 0 rfl) ?_
  refine mv_callV (ws0 := (wX ad cA P y n (bI kb) fd fc fr)) (wr := []) (rest := []) ⟨hx, hb, hml, hown, hts⟩ [] (fun sz => (mX0_learn l dC dI ad cA P y n kb fd fc fr hp7 hy hn hgood sz)) (lw_V q96 q98 qs4 q19 q99) hdX0_learn ⟨Nat.le_of_ble_eq_true rfl, Nat.le_of_ble_eq_true rfl⟩ ⟨rfl, rfl⟩ hK [0, 1, 2, 3, 4, 5] [] rfl rfl rfl rfl (fun _ h => absurd h List.not_mem_nil) rfl (q0 := 0) (ci := 0) rfl rfl rfl hl.1 rfl (Nat.le_of_ble_eq_true rfl) dX0_central_1 ⟨Nat.zero_le _, Nat.zero_le _⟩ hA hP hD hS (fun u_1 H locs hu_1 hP hD hS => ?_)
  have hg : Good y n P u_1.2.1 u_1.2.2 := hu_1
  have hP : va_P (dC, dI) vwCl (wX ad cA P y n (bI true) u_1.1 u_1.2.1 u_1.2.2) H := hP
  have hD : va_D A (wX ad cA P y n (bI true) u_1.1 u_1.2.1 u_1.2.2) := hD
  refine lv_aload_n hx hb dX0_central_4 rfl (lv_at hl 0 rfl) ?_
  refine va_get (D := (dC, dI)) (ci := 0) (v := .int (nI P)) (C := RX0) (T := TX0) (N := 7) hx hb hts in_X0 hown hK hP 0 rfl rfl 0 (by decide) (hts _ q29) (fun _ h9 => h9) rfl dX0_central_5 ?_
  refine lv_istore_n (lv' := [(1, .int (nI P)), (0, .ref (ad 0))]) hx hb dX0_central_8 rfl hl (by decide) rfl (fun ls hl => ?_)
  refine lv_iconst (v := (nI 0)) hx hb dX0_central_9 (by decide) ?_
  refine lv_istore_n (lv' := [(2, .int (nI 0)), (1, .int (nI P)), (0, .ref (ad 0))]) hx hb dX0_central_10 rfl hl (by decide) rfl (fun ls hl => ?_)
  have loop_11 : ∀ (n_ : Nat) (k : Nat), (k ≤ 128) → 128 - k < n_ → ∀ (H : Heap) (locs : List Loc), va_P (dC, dI) vwCl (wX ad cA P y n (bI true) u_1.1 u_1.2.1 u_1.2.2) H → va_D A (wX ad cA P y n (bI true) u_1.1 u_1.2.1 u_1.2.2) → va_S A s.heap H locs → ∀ (ls : Array Slot), lv_has ls 3 [(0, .ref (ad 0)), (1, .int (nI (andN P (coreB y n P) k))), (2, .int (nI k))] → W p l e ({ frames := 5, cells := 0, slots := 0, locals := 122 } : Room) s m ([.ref (ad 0)] : List Value).toArray below meth c H locs 0 0 (QI below A (dC, dI) (nI (andN P (coreB y n P) 128)) (fun u : (Nat → Int64) × (Nat → Int64) × (Nat → Int64) => Good y n P u.2.1 u.2.2) (fun u : (Nat → Int64) × (Nat → Int64) × (Nat → Int64) => wX ad cA P y n (bI true) u.1 u.2.1 u.2.2) ([.ref (ad 0)] : List Value).toArray s) (F0 m 11 ls []) := by
    intro n_
    induction n_ with
    | zero =>
      intro k hk hlt
      exact absurd hlt (Nat.not_lt_zero _)
    | succ n_ ih_11 =>
      intro k hk hlt_11 H locs hP hD hS ls hl
      refine lv_iload_n hx hb dX0_central_11 rfl (lv_at hl 2 rfl) ?_
      refine lv_sipush (v := (nI 128)) hx hb dX0_central_12 (by decide) ?_
      refine nv_cgeN hx hb 41 (by first | omega | exact nd_lt (by omega) | exact Nat.lt_of_le_of_lt Nat.and_le_left (by omega) | exact Nat.lt_of_le_of_lt Nat.and_le_right (by omega)) (by first | omega | exact nd_lt (by omega) | exact Nat.lt_of_le_of_lt Nat.and_le_left (by omega) | exact Nat.lt_of_le_of_lt Nat.and_le_right (by omega)) dX0_central_15 (by decide) (fun c_15 => ?_) (fun c_15 => ?_)
      · skip
        refine lv_iload_n hx hb dX0_central_41 rfl (lv_at hl 1 rfl) ?_
        exact mi_ret hx hb hr hlocks hS u_1 hP hD hg (by rw [show k = 128 by omega]) dX0_central_42
      · skip
        refine lv_iload_n hx hb dX0_central_18 rfl (lv_at hl 1 rfl) ?_
        refine lv_aload_n hx hb dX0_central_19 rfl (lv_at hl 0 rfl) ?_
        refine lv_iload_n hx hb dX0_central_20 rfl (lv_at hl 2 rfl) ?_
        refine pi_callV (ws0 := (wX ad cA P y n (bI true) u_1.1 u_1.2.1 u_1.2.2)) (rest := [.int (nI (andN P (coreB y n P) k))]) ⟨hx, hb, hml, hown, hts⟩ [.int (nI k)] (mX0_isCore l dC dI ad cA P y n (bI true) u_1.1 u_1.2.1 u_1.2.2 k (by omega)) (lw_V q119 q121 qs9 q19 q122) hdX0_isCore ⟨Nat.le_of_ble_eq_true rfl, Nat.le_of_ble_eq_true rfl⟩ ⟨rfl, rfl⟩ hK hP (q0 := 0) (ci := 0) rfl rfl rfl hl.1 rfl (Nat.le_of_ble_eq_true rfl) dX0_central_21 ⟨Nat.zero_le _, Nat.zero_le _⟩ hP hS (fun H locs hP hS => ?_)
        refine nv_e (y := (bI (coreB y n P k))) (by rw [(hg k c_15).1]) ?_
        refine nv_eqB hx hb 31 dX0_central_24 (by decide) (fun c_24 => ?_) (fun c_24 => ?_)
        · skip
          refine lv_bipush (v := (nI 127)) hx hb dX0_central_31 (by decide) ?_
          refine nv_and hx hb dX0_central_33 ?_
          refine nv_e (y := (nI (andN P (coreB y n P) (k + 1)))) (by rw [and_f hp7 c_24]) ?_
          refine lv_istore_n (lv' := [(1, .int (nI (andN P (coreB y n P) (k + 1)))), (0, .ref (ad 0)), (2, .int (nI k))]) hx hb dX0_central_34 rfl hl (by decide) rfl (fun ls hl => ?_)
          refine lv_iinc (v := (nI (k + 1))) (lv' := [(2, .int (nI (k + 1))), (1, .int (nI (andN P (coreB y n P) (k + 1)))), (0, .ref (ad 0))]) hx hb dX0_central_35 hl (k := 2) rfl (nI_1 k) (by decide) rfl (fun ls hl => ?_)
          refine lv_goto (tgt := 11) hx hb dX0_central_38 (by decide) ?_
          exact ih_11 (k + 1) (by omega) (by omega) _ _ hP hD hS ls (lv_sub hl [2, 1, 0] rfl)
        · skip
          refine lv_iload_n hx hb dX0_central_27 rfl (lv_at hl 2 rfl) ?_
          refine lv_goto (tgt := 33) hx hb dX0_central_28 (by decide) ?_
          refine nv_and hx hb dX0_central_33 ?_
          refine nv_e (y := (nI (andN P (coreB y n P) (k + 1)))) (by rw [and_t c_24]) ?_
          refine lv_istore_n (lv' := [(1, .int (nI (andN P (coreB y n P) (k + 1)))), (0, .ref (ad 0)), (2, .int (nI k))]) hx hb dX0_central_34 rfl hl (by decide) rfl (fun ls hl => ?_)
          refine lv_iinc (v := (nI (k + 1))) (lv' := [(2, .int (nI (k + 1))), (1, .int (nI (andN P (coreB y n P) (k + 1)))), (0, .ref (ad 0))]) hx hb dX0_central_35 hl (k := 2) rfl (nI_1 k) (by decide) rfl (fun ls hl => ?_)
          refine lv_goto (tgt := 11) hx hb dX0_central_38 (by decide) ?_
          exact ih_11 (k + 1) (by omega) (by omega) _ _ hP hD hS ls (lv_sub hl [2, 1, 0] rfl)
  exact loop_11 (128 - 0 + 1) 0 (by omega) (Nat.lt_succ_self _) _ _ hP hD hS ls (lv_sub hl [2, 1, 0] rfl)
set_option maxHeartbeats 4000000 in
set_option maxRecDepth 100000 in
/-- smallestCore() -/
theorem mX0_smallestCore (l : Launch) (dC : Nat → ClassId) (dI : Nat → Nat → Nat) (ad : Nat → Nat) (cA : Nat → ClassId) (P : Nat) (y n : Nat → Nat) (kb : Bool) (fd fc fr : Nat → Int64) (hp7 : P < 128) (hy : ∀ k, y k < 16) (hn : ∀ k, n k < 16) (hgood : kb = true → Good y n P fc fr) (sz : Nat) : MI l yX0_smallestCore cX0_smallestCore 4 (some .int) ({ frames := 5, cells := 0, slots := 0, locals := 122 } : Room) [.ref (ad 0)] (dC, dI) (wX ad cA P y n (bI kb) fd fc fr) (tX cA) sz (oI (minN (coreB y n P) 128)) (fun u : (Nat → Int64) × (Nat → Int64) × (Nat → Int64) => Good y n P u.2.1 u.2.2) (fun u : (Nat → Int64) × (Nat → Int64) × (Nat → Int64) => wX ad cA P y n (bI true) u.1 u.2.1 u.2.2) := by
  refine MI.of (by decide) (Nat.le_of_ble_eq_true rfl) ?_
  intro p e s m below meth c hx hb hr hlocks hml hown hts hK A hA H locs hP hD hS ls hl
  have hown : s.vm.findClass "CoreFinder" = some m.cls := hown
  have hl : lv_has ls 4 [(0, .ref (ad 0))] := hl
  refine lv_aload_n hx hb dX0_smallestCore_0 rfl (lv_at hl 0 rfl) ?_
  refine mv_callV (ws0 := (wX ad cA P y n (bI kb) fd fc fr)) (wr := []) (rest := []) ⟨hx, hb, hml, hown, hts⟩ [] (fun sz => (mX0_learn l dC dI ad cA P y n kb fd fc fr hp7 hy hn hgood sz)) (lw_V q96 q98 qs4 q19 q99) hdX0_learn ⟨Nat.le_of_ble_eq_true rfl, Nat.le_of_ble_eq_true rfl⟩ ⟨rfl, rfl⟩ hK [0, 1, 2, 3, 4, 5] [] rfl rfl rfl rfl (fun _ h => absurd h List.not_mem_nil) rfl (q0 := 0) (ci := 0) rfl rfl rfl hl.1 rfl (Nat.le_of_ble_eq_true rfl) dX0_smallestCore_1 ⟨Nat.zero_le _, Nat.zero_le _⟩ hA hP hD hS (fun u_1 H locs hu_1 hP hD hS => ?_)
  have hg : Good y n P u_1.2.1 u_1.2.2 := hu_1
  have hP : va_P (dC, dI) vwCl (wX ad cA P y n (bI true) u_1.1 u_1.2.1 u_1.2.2) H := hP
  have hD : va_D A (wX ad cA P y n (bI true) u_1.1 u_1.2.1 u_1.2.2) := hD
  refine lv_iconst (v := (-1)) hx hb dX0_smallestCore_4 (by decide) ?_
  refine lv_istore_n (lv' := [(1, .int (-1)), (0, .ref (ad 0))]) hx hb dX0_smallestCore_5 rfl hl (by decide) rfl (fun ls hl => ?_)
  refine lv_iconst (v := (nI 0)) hx hb dX0_smallestCore_6 (by decide) ?_
  refine lv_istore_n (lv' := [(2, .int (nI 0)), (1, .int (-1)), (0, .ref (ad 0))]) hx hb dX0_smallestCore_7 rfl hl (by decide) rfl (fun ls hl => ?_)
  have loop_8 : ∀ (n_ : Nat) (o : Option Nat) (k : Nat), (k ≤ 128) → (o = minN (coreB y n P) k) → 128 - k < n_ → ∀ (H : Heap) (locs : List Loc), va_P (dC, dI) vwCl (wX ad cA P y n (bI true) u_1.1 u_1.2.1 u_1.2.2) H → va_D A (wX ad cA P y n (bI true) u_1.1 u_1.2.1 u_1.2.2) → va_S A s.heap H locs → ∀ (ls : Array Slot), lv_has ls 4 [(0, .ref (ad 0)), (1, .int (oI o)), (2, .int (nI k))] → W p l e ({ frames := 5, cells := 0, slots := 0, locals := 122 } : Room) s m ([.ref (ad 0)] : List Value).toArray below meth c H locs 0 0 (QI below A (dC, dI) (oI (minN (coreB y n P) 128)) (fun u : (Nat → Int64) × (Nat → Int64) × (Nat → Int64) => Good y n P u.2.1 u.2.2) (fun u : (Nat → Int64) × (Nat → Int64) × (Nat → Int64) => wX ad cA P y n (bI true) u.1 u.2.1 u.2.2) ([.ref (ad 0)] : List Value).toArray s) (F0 m 8 ls []) := by
    intro n_
    induction n_ with
    | zero =>
      intro o k hk ho hlt
      exact absurd hlt (Nat.not_lt_zero _)
    | succ n_ ih_8 =>
      intro o k hk ho hlt_8 H locs hP hD hS ls hl
      refine lv_iload_n hx hb dX0_smallestCore_8 rfl (lv_at hl 2 rfl) ?_
      refine lv_sipush (v := (nI 128)) hx hb dX0_smallestCore_9 (by decide) ?_
      refine nv_cgeN hx hb 53 (by first | omega | exact nd_lt (by omega) | exact Nat.lt_of_le_of_lt Nat.and_le_left (by omega) | exact Nat.lt_of_le_of_lt Nat.and_le_right (by omega)) (by first | omega | exact nd_lt (by omega) | exact Nat.lt_of_le_of_lt Nat.and_le_left (by omega) | exact Nat.lt_of_le_of_lt Nat.and_le_right (by omega)) dX0_smallestCore_12 (by decide) (fun c_12 => ?_) (fun c_12 => ?_)
      · skip
        refine lv_iload_n hx hb dX0_smallestCore_53 rfl (lv_at hl 1 rfl) ?_
        exact mi_ret hx hb hr hlocks hS u_1 hP hD hg (by rw [ho, show k = 128 by omega]) dX0_smallestCore_54
      · skip
        refine lv_aload_n hx hb dX0_smallestCore_15 rfl (lv_at hl 0 rfl) ?_
        refine lv_iload_n hx hb dX0_smallestCore_16 rfl (lv_at hl 2 rfl) ?_
        refine pi_callV (ws0 := (wX ad cA P y n (bI true) u_1.1 u_1.2.1 u_1.2.2)) (rest := []) ⟨hx, hb, hml, hown, hts⟩ [.int (nI k)] (mX0_isCore l dC dI ad cA P y n (bI true) u_1.1 u_1.2.1 u_1.2.2 k (by omega)) (lw_V q119 q121 qs9 q19 q122) hdX0_isCore ⟨Nat.le_of_ble_eq_true rfl, Nat.le_of_ble_eq_true rfl⟩ ⟨rfl, rfl⟩ hK hP (q0 := 0) (ci := 0) rfl rfl rfl hl.1 rfl (Nat.le_of_ble_eq_true rfl) dX0_smallestCore_17 ⟨Nat.zero_le _, Nat.zero_le _⟩ hP hS (fun H locs hP hS => ?_)
        refine nv_e (y := (bI (coreB y n P k))) (by rw [(hg k c_12).1]) ?_
        refine nv_eqB hx hb 30 dX0_smallestCore_20 (by decide) (fun c_20 => ?_) (fun c_20 => ?_)
        · skip
          refine lv_iconst (v := (-1)) hx hb dX0_smallestCore_30 (by decide) ?_
          refine lv_istore_n (lv' := [(3, .int (-1)), (0, .ref (ad 0)), (1, .int (oI o)), (2, .int (nI k))]) hx hb dX0_smallestCore_31 rfl hl (by decide) rfl (fun ls hl => ?_)
          refine lv_iload_n hx hb dX0_smallestCore_32 rfl (lv_at hl 0 rfl) ?_
          refine lv_if_lt (tgt := 47) hx hb dX0_smallestCore_33 (by decide) (fun c_33 => ?_) (fun c_33 => absurd c_33 (by decide))
          refine lv_iinc (v := (nI (k + 1))) (lv' := [(2, .int (nI (k + 1))), (3, .int (-1)), (0, .ref (ad 0)), (1, .int (oI o))]) hx hb dX0_smallestCore_47 hl (k := 3) rfl (nI_1 k) (by decide) rfl (fun ls hl => ?_)
          refine lv_goto (tgt := 8) hx hb dX0_smallestCore_50 (by decide) ?_
          exact ih_8 o (k + 1) (by omega) (ho.trans (min_f c_20)) (by omega) _ _ hP hD hS ls (lv_sub hl [2, 3, 0] rfl)
        · skip
          refine lv_iload_n hx hb dX0_smallestCore_23 rfl (lv_at hl 2 rfl) ?_
          refine pi_callS (ws0 := (wX ad cA P y n (bI true) u_1.1 u_1.2.1 u_1.2.2)) (rest := []) ⟨hx, hb, hml, hown, hts⟩ [.int (nI k)] (mX0_ones l dC dI k) (lw_S q151 q152 q19 q153) hdX0_ones ⟨Nat.le_of_ble_eq_true rfl, Nat.le_of_ble_eq_true rfl⟩ ⟨rfl, rfl⟩ (hK.sub [] rfl) (hP.sub [] rfl) hl.1 rfl (Nat.le_of_ble_eq_true rfl) dX0_smallestCore_24 ⟨Nat.zero_le _, Nat.zero_le _⟩ hP hS (fun H locs hP hS => ?_)
          refine lv_goto (tgt := 31) hx hb dX0_smallestCore_27 (by decide) ?_
          refine lv_istore_n (lv' := [(3, .int (nI (on7 k 7))), (0, .ref (ad 0)), (1, .int (oI o)), (2, .int (nI k))]) hx hb dX0_smallestCore_31 rfl hl (by decide) rfl (fun ls hl => ?_)
          refine lv_iload_n hx hb dX0_smallestCore_32 rfl (lv_at hl 0 rfl) ?_
          refine nv_ltN hx hb 47 (on31 _) dX0_smallestCore_33 (by decide) ?_
          refine lv_iload_n hx hb dX0_smallestCore_36 rfl (lv_at hl 2 rfl) ?_
          refine nv_ltO hx hb 45 (fun j hj => minN_lt (ho.symm.trans hj)) dX0_smallestCore_37 (by decide) (fun c_37 => ?_) (fun k_37 c_37 => ?_)
          · skip
            refine lv_iload_n hx hb dX0_smallestCore_45 rfl (lv_at hl 0 rfl) ?_
            refine lv_istore_n (lv' := [(1, .int (nI (on7 k 7))), (3, .int (nI (on7 k 7))), (0, .ref (ad 0)), (2, .int (nI k))]) hx hb dX0_smallestCore_46 rfl hl (by decide) rfl (fun ls hl => ?_)
            refine lv_iinc (v := (nI (k + 1))) (lv' := [(2, .int (nI (k + 1))), (1, .int (nI (on7 k 7))), (3, .int (nI (on7 k 7))), (0, .ref (ad 0))]) hx hb dX0_smallestCore_47 hl (k := 3) rfl (nI_1 k) (by decide) rfl (fun ls hl => ?_)
            refine lv_goto (tgt := 8) hx hb dX0_smallestCore_50 (by decide) ?_
            exact ih_8 (some (on7 k 7)) (k + 1) (by omega) (min_y0 c_20 (c_37.symm.trans ho)) (by omega) _ _ hP hD hS ls (lv_sub hl [3, 1, 0] rfl)
          · skip
            subst c_37
            have hl : lv_has ls 4 [(3, .int (nI (on7 k 7))), (0, .ref (ad 0)), (1, .int (nI k_37)), (2, .int (nI k))] := hl
            refine lv_iload_n hx hb dX0_smallestCore_40 rfl (lv_at hl 0 rfl) ?_
            refine lv_iload_n hx hb dX0_smallestCore_41 rfl (lv_at hl 2 rfl) ?_
            refine nv_cgeN hx hb 47 (on31 _) (minN_lt ho.symm) dX0_smallestCore_42 (by decide) (fun c_42 => ?_) (fun c_42 => ?_)
            · skip
              refine lv_iinc (v := (nI (k + 1))) (lv' := [(2, .int (nI (k + 1))), (3, .int (nI (on7 k 7))), (0, .ref (ad 0)), (1, .int (nI k_37))]) hx hb dX0_smallestCore_47 hl (k := 3) rfl (nI_1 k) (by decide) rfl (fun ls hl => ?_)
              refine lv_goto (tgt := 8) hx hb dX0_smallestCore_50 (by decide) ?_
              exact ih_8 (some k_37) (k + 1) (by omega) (min_n ho c_42) (by omega) _ _ hP hD hS ls (lv_sub hl [2, 3, 0] rfl)
            · skip
              refine lv_iload_n hx hb dX0_smallestCore_45 rfl (lv_at hl 0 rfl) ?_
              refine lv_istore_n (lv' := [(1, .int (nI (on7 k 7))), (3, .int (nI (on7 k 7))), (0, .ref (ad 0)), (2, .int (nI k))]) hx hb dX0_smallestCore_46 rfl hl (by decide) rfl (fun ls hl => ?_)
              refine lv_iinc (v := (nI (k + 1))) (lv' := [(2, .int (nI (k + 1))), (1, .int (nI (on7 k 7))), (3, .int (nI (on7 k 7))), (0, .ref (ad 0))]) hx hb dX0_smallestCore_47 hl (k := 3) rfl (nI_1 k) (by decide) rfl (fun ls hl => ?_)
              refine lv_goto (tgt := 8) hx hb dX0_smallestCore_50 (by decide) ?_
              exact ih_8 (some (on7 k 7)) (k + 1) (by omega) (min_y c_20 ho c_42) (by omega) _ _ hP hD hS ls (lv_sub hl [3, 1, 0] rfl)
  exact loop_8 (128 - 0 + 1) none 0 (by omega) rfl (Nat.lt_succ_self _) _ _ hP hD hS ls (lv_sub hl [2, 1, 0] rfl)
set_option maxHeartbeats 4000000 in
set_option maxRecDepth 100000 in
/-- mostTogether() -/
theorem mX0_mostTogether (l : Launch) (dC : Nat → ClassId) (dI : Nat → Nat → Nat) (ad : Nat → Nat) (cA : Nat → ClassId) (P : Nat) (y n : Nat → Nat) (kb : Bool) (fd fc fr : Nat → Int64) (hp7 : P < 128) (hy : ∀ k, y k < 16) (hn : ∀ k, n k < 16) (hgood : kb = true → Good y n P fc fr) (sz : Nat) : MI l yX0_mostTogether cX0_mostTogether 4 (some .int) ({ frames := 5, cells := 0, slots := 0, locals := 122 } : Room) [.ref (ad 0)] (dC, dI) (wX ad cA P y n (bI kb) fd fc fr) (tX cA) sz (nI (mtX P (repB y n P) 128)) (fun u : (Nat → Int64) × (Nat → Int64) × (Nat → Int64) => Good y n P u.2.1 u.2.2) (fun u : (Nat → Int64) × (Nat → Int64) × (Nat → Int64) => wX ad cA P y n (bI true) u.1 u.2.1 u.2.2) := by
  refine MI.of (by decide) (Nat.le_of_ble_eq_true rfl) ?_
  intro p e s m below meth c hx hb hr hlocks hml hown hts hK A hA H locs hP hD hS ls hl
  have hown : s.vm.findClass "CoreFinder" = some m.cls := hown
  have hl : lv_has ls 4 [(0, .ref (ad 0))] := hl
  refine lv_aload_n hx hb dX0_mostTogether_0 rfl (lv_at hl 0 rfl) ?_
  refine mv_callV (ws0 := (wX ad cA P y n (bI kb) fd fc fr)) (wr := []) (rest := []) ⟨hx, hb, hml, hown, hts⟩ [] (fun sz => (mX0_learn l dC dI ad cA P y n kb fd fc fr hp7 hy hn hgood sz)) (lw_V q96 q98 qs4 q19 q99) hdX0_learn ⟨Nat.le_of_ble_eq_true rfl, Nat.le_of_ble_eq_true rfl⟩ ⟨rfl, rfl⟩ hK [0, 1, 2, 3, 4, 5] [] rfl rfl rfl rfl (fun _ h => absurd h List.not_mem_nil) rfl (q0 := 0) (ci := 0) rfl rfl rfl hl.1 rfl (Nat.le_of_ble_eq_true rfl) dX0_mostTogether_1 ⟨Nat.zero_le _, Nat.zero_le _⟩ hA hP hD hS (fun u_1 H locs hu_1 hP hD hS => ?_)
  have hg : Good y n P u_1.2.1 u_1.2.2 := hu_1
  have hP : va_P (dC, dI) vwCl (wX ad cA P y n (bI true) u_1.1 u_1.2.1 u_1.2.2) H := hP
  have hD : va_D A (wX ad cA P y n (bI true) u_1.1 u_1.2.1 u_1.2.2) := hD
  refine lv_iconst (v := (nI 0)) hx hb dX0_mostTogether_4 (by decide) ?_
  refine lv_istore_n (lv' := [(1, .int (nI 0)), (0, .ref (ad 0))]) hx hb dX0_mostTogether_5 rfl hl (by decide) rfl (fun ls hl => ?_)
  refine lv_iconst (v := (nI 0)) hx hb dX0_mostTogether_6 (by decide) ?_
  refine lv_istore_n (lv' := [(2, .int (nI 0)), (1, .int (nI 0)), (0, .ref (ad 0))]) hx hb dX0_mostTogether_7 rfl hl (by decide) rfl (fun ls hl => ?_)
  have loop_8 : ∀ (n_ : Nat) (q : Nat) (k : Nat), (k ≤ 128) → (q = mtX P (repB y n P) k) → 128 - k < n_ → ∀ (H : Heap) (locs : List Loc), va_P (dC, dI) vwCl (wX ad cA P y n (bI true) u_1.1 u_1.2.1 u_1.2.2) H → va_D A (wX ad cA P y n (bI true) u_1.1 u_1.2.1 u_1.2.2) → va_S A s.heap H locs → ∀ (ls : Array Slot), lv_has ls 4 [(0, .ref (ad 0)), (1, .int (nI q)), (2, .int (nI k))] → W p l e ({ frames := 5, cells := 0, slots := 0, locals := 122 } : Room) s m ([.ref (ad 0)] : List Value).toArray below meth c H locs 0 0 (QI below A (dC, dI) (nI (mtX P (repB y n P) 128)) (fun u : (Nat → Int64) × (Nat → Int64) × (Nat → Int64) => Good y n P u.2.1 u.2.2) (fun u : (Nat → Int64) × (Nat → Int64) × (Nat → Int64) => wX ad cA P y n (bI true) u.1 u.2.1 u.2.2) ([.ref (ad 0)] : List Value).toArray s) (F0 m 8 ls []) := by
    intro n_
    induction n_ with
    | zero =>
      intro q k hk hq hlt
      exact absurd hlt (Nat.not_lt_zero _)
    | succ n_ ih_8 =>
      intro q k hk hq hlt_8 H locs hP hD hS ls hl
      refine lv_iload_n hx hb dX0_mostTogether_8 rfl (lv_at hl 2 rfl) ?_
      refine lv_sipush (v := (nI 128)) hx hb dX0_mostTogether_9 (by decide) ?_
      refine nv_cgeN hx hb 56 (by first | omega | exact nd_lt (by omega) | exact Nat.lt_of_le_of_lt Nat.and_le_left (by omega) | exact Nat.lt_of_le_of_lt Nat.and_le_right (by omega)) (by first | omega | exact nd_lt (by omega) | exact Nat.lt_of_le_of_lt Nat.and_le_left (by omega) | exact Nat.lt_of_le_of_lt Nat.and_le_right (by omega)) dX0_mostTogether_12 (by decide) (fun c_12 => ?_) (fun c_12 => ?_)
      · skip
        refine lv_iload_n hx hb dX0_mostTogether_56 rfl (lv_at hl 1 rfl) ?_
        exact mi_ret hx hb hr hlocks hS u_1 hP hD hg (by rw [hq, show k = 128 by omega]) dX0_mostTogether_57
      · skip
        refine lv_aload_n hx hb dX0_mostTogether_15 rfl (lv_at hl 0 rfl) ?_
        refine lv_iload_n hx hb dX0_mostTogether_16 rfl (lv_at hl 2 rfl) ?_
        refine pi_callV (ws0 := (wX ad cA P y n (bI true) u_1.1 u_1.2.1 u_1.2.2)) (rest := []) ⟨hx, hb, hml, hown, hts⟩ [.int (nI k)] (mX0_isRepair l dC dI ad cA P y n (bI true) u_1.1 u_1.2.1 u_1.2.2 k (by omega)) (lw_V q131 q133 qs10 q19 q134) hdX0_isRepair ⟨Nat.le_of_ble_eq_true rfl, Nat.le_of_ble_eq_true rfl⟩ ⟨rfl, rfl⟩ hK hP (q0 := 0) (ci := 0) rfl rfl rfl hl.1 rfl (Nat.le_of_ble_eq_true rfl) dX0_mostTogether_17 ⟨Nat.zero_le _, Nat.zero_le _⟩ hP hS (fun H locs hP hS => ?_)
        refine nv_e (y := (bI (repB y n P k))) (by rw [(hg k c_12).2]) ?_
        refine nv_eqB hx hb 37 dX0_mostTogether_20 (by decide) (fun c_20 => ?_) (fun c_20 => ?_)
        · skip
          refine lv_iconst (v := (nI 0)) hx hb dX0_mostTogether_37 (by decide) ?_
          refine lv_istore_n (lv' := [(3, .int (nI 0)), (0, .ref (ad 0)), (1, .int (nI q)), (2, .int (nI k))]) hx hb dX0_mostTogether_38 rfl hl (by decide) rfl (fun ls hl => ?_)
          refine lv_iload_n hx hb dX0_mostTogether_39 rfl (lv_at hl 0 rfl) ?_
          refine lv_iload_n hx hb dX0_mostTogether_40 rfl (lv_at hl 2 rfl) ?_
          refine nv_cleN hx hb 48 (by first | decide | exact on31 _) (by rw [hq]; exact Nat.lt_of_le_of_lt (mtX_le _ _ _) (by decide)) dX0_mostTogether_41 (by decide) (fun c_41 => ?_) (fun c_41 => absurd c_41 (by omega))
          refine lv_iload_n hx hb dX0_mostTogether_48 rfl (lv_at hl 2 rfl) ?_
          refine lv_istore_n (lv' := [(1, .int (nI q)), (3, .int (nI 0)), (0, .ref (ad 0)), (2, .int (nI k))]) hx hb dX0_mostTogether_49 rfl hl (by decide) rfl (fun ls hl => ?_)
          refine lv_iinc (v := (nI (k + 1))) (lv' := [(2, .int (nI (k + 1))), (1, .int (nI q)), (3, .int (nI 0)), (0, .ref (ad 0))]) hx hb dX0_mostTogether_50 hl (k := 3) rfl (nI_1 k) (by decide) rfl (fun ls hl => ?_)
          refine lv_goto (tgt := 8) hx hb dX0_mostTogether_53 (by decide) ?_
          exact ih_8 q (k + 1) (by omega) (hq.trans (mtX_f c_20)) (by omega) _ _ hP hD hS ls (lv_sub hl [3, 1, 0] rfl)
        · skip
          refine lv_aload_n hx hb dX0_mostTogether_23 rfl (lv_at hl 0 rfl) ?_
          refine va_get (D := (dC, dI)) (ci := 0) (v := .int (nI P)) (C := RX0) (T := TX0) (N := 7) hx hb hts in_X0 hown hK hP 0 rfl rfl 0 (by decide) (hts _ q29) (fun _ h9 => h9) rfl dX0_mostTogether_24 ?_
          refine lv_iload_n hx hb dX0_mostTogether_27 rfl (lv_at hl 2 rfl) ?_
          refine lv_iconst (v := (-1)) hx hb dX0_mostTogether_28 (by decide) ?_
          refine lv_ixor hx hb dX0_mostTogether_29 ?_
          refine nv_andn hx hb dX0_mostTogether_30 ?_
          refine pi_callS (ws0 := (wX ad cA P y n (bI true) u_1.1 u_1.2.1 u_1.2.2)) (rest := []) ⟨hx, hb, hml, hown, hts⟩ [.int (nI (nd P k))] (mX0_ones l dC dI (nd P k)) (lw_S q151 q152 q19 q153) hdX0_ones ⟨Nat.le_of_ble_eq_true rfl, Nat.le_of_ble_eq_true rfl⟩ ⟨rfl, rfl⟩ (hK.sub [] rfl) (hP.sub [] rfl) hl.1 rfl (Nat.le_of_ble_eq_true rfl) dX0_mostTogether_31 ⟨Nat.zero_le _, Nat.zero_le _⟩ hP hS (fun H locs hP hS => ?_)
          refine lv_goto (tgt := 38) hx hb dX0_mostTogether_34 (by decide) ?_
          refine lv_istore_n (lv' := [(3, .int (nI (on7 (nd P k) 7))), (0, .ref (ad 0)), (1, .int (nI q)), (2, .int (nI k))]) hx hb dX0_mostTogether_38 rfl hl (by decide) rfl (fun ls hl => ?_)
          refine lv_iload_n hx hb dX0_mostTogether_39 rfl (lv_at hl 0 rfl) ?_
          refine lv_iload_n hx hb dX0_mostTogether_40 rfl (lv_at hl 2 rfl) ?_
          refine nv_cleN hx hb 48 (by first | decide | exact on31 _) (by rw [hq]; exact Nat.lt_of_le_of_lt (mtX_le _ _ _) (by decide)) dX0_mostTogether_41 (by decide) (fun c_41 => ?_) (fun c_41 => ?_)
          · skip
            refine lv_iload_n hx hb dX0_mostTogether_48 rfl (lv_at hl 2 rfl) ?_
            refine lv_istore_n (lv' := [(1, .int (nI q)), (3, .int (nI (on7 (nd P k) 7))), (0, .ref (ad 0)), (2, .int (nI k))]) hx hb dX0_mostTogether_49 rfl hl (by decide) rfl (fun ls hl => ?_)
            refine lv_iinc (v := (nI (k + 1))) (lv' := [(2, .int (nI (k + 1))), (1, .int (nI q)), (3, .int (nI (on7 (nd P k) 7))), (0, .ref (ad 0))]) hx hb dX0_mostTogether_50 hl (k := 3) rfl (nI_1 k) (by decide) rfl (fun ls hl => ?_)
            refine lv_goto (tgt := 8) hx hb dX0_mostTogether_53 (by decide) ?_
            exact ih_8 q (k + 1) (by omega) (hq.trans (mtX_n (by rw [← hq]; exact c_41))) (by omega) _ _ hP hD hS ls (lv_sub hl [3, 1, 0] rfl)
          · skip
            refine lv_iload_n hx hb dX0_mostTogether_44 rfl (lv_at hl 0 rfl) ?_
            refine lv_goto (tgt := 49) hx hb dX0_mostTogether_45 (by decide) ?_
            refine lv_istore_n (lv' := [(1, .int (nI (on7 (nd P k) 7))), (3, .int (nI (on7 (nd P k) 7))), (0, .ref (ad 0)), (2, .int (nI k))]) hx hb dX0_mostTogether_49 rfl hl (by decide) rfl (fun ls hl => ?_)
            refine lv_iinc (v := (nI (k + 1))) (lv' := [(2, .int (nI (k + 1))), (1, .int (nI (on7 (nd P k) 7))), (3, .int (nI (on7 (nd P k) 7))), (0, .ref (ad 0))]) hx hb dX0_mostTogether_50 hl (k := 3) rfl (nI_1 k) (by decide) rfl (fun ls hl => ?_)
            refine lv_goto (tgt := 8) hx hb dX0_mostTogether_53 (by decide) ?_
            exact ih_8 (on7 (nd P k) 7) (k + 1) (by omega) (mtX_y c_20 (by rw [← hq]; exact c_41)) (by omega) _ _ hP hD hS ls (lv_sub hl [3, 1, 0] rfl)
  exact loop_8 (128 - 0 + 1) 0 0 (by omega) rfl (Nat.lt_succ_self _) _ _ hP hD hS ls (lv_sub hl [2, 1, 0] rfl)
end
section
/-! plain lemmas for the reference -/
set_option maxRecDepth 100000
def hB2 (a b v : Nat) : Bool := (a &&& v != 0) || (nd b v != 0)
def FineP (y n : Nat → Nat) (P : Nat) (f : Nat → Int32) : Prop := ∀ t, t < 128 → f t = bI (cB y n (t &&& P))
def consB (y n : Nat → Nat) (P t : Nat) : Bool := (nd t P == 0) && cB y n t
def flwM (y n : Nat → Nat) (P a b : Nat) : Bool := (setB (nI a) && setB (nI b)) && allN (fun v => !aB y n (127 &&& P) v || hB2 a b v) 16
theorem nar_b (b : Bool) : vp_nar .boolean (bI b) = bI b := by cases b <;> rfl
theorem upd_t (P k : Nat) : upd (fun j => bI (P.testBit j)) k (vp_nar .boolean (nI 1)) = fun j => bI ((P ||| 2 ^ k).testBit j) := by
  funext j
  by_cases h : j = k
  · rw [h, pk_us, tb_or]
    simp
    rfl
  · rw [pk_un h, tb_or]
    simp [Ne.symm h]
theorem upd_d (P k : Nat) : upd (fun j => bI (P.testBit j)) k (vp_nar .boolean (nI 0)) = fun j => bI ((nd P (2 ^ k)).testBit j) := by
  funext j
  by_cases h : j = k
  · rw [h, pk_us, tb_del]
    simp
    rfl
  · rw [pk_un h, tb_del]
    simp [Ne.symm h]
theorem ix6 {a : Nat} (ha : a < 2 ^ 32) (h1 : ¬ nI a < 0) (h2 : ¬ nI 6 < nI a) : a < 7 := by
  obtain ⟨j, hj, e⟩ := nI_of2 (n := 6) (M := nI 6) (by decide) h1 (Int32.not_lt.mp h2)
  rw [(nn_eq ha (by omega)).mp e]; omega
theorem hasX_gt6 {P a : Nat} (ha : a < 2 ^ 32) (h : nI 6 < nI a) : hasX P (nI a) = false := by
  cases hh : hasX P (nI a) with
  | false => rfl
  | true =>
    have h7 := hasX_lt ha hh
    exact absurd h (nI_nlt (by omega) (by omega))
theorem mod_t {P k : Nat} (h : P.testBit k = true) : P % 2 ^ k ||| 2 ^ k = P % 2 ^ (k + 1) := by
  apply Nat.eq_of_testBit_eq
  intro i
  rw [tb_or, Nat.testBit_mod_two_pow, Nat.testBit_mod_two_pow]
  by_cases e : k = i
  · subst e; simp [h]
  · have e1 : decide (i < k + 1) = decide (i < k) := decide_eq_decide.mpr (by omega)
    simp [e, e1]
theorem mod_f {P k : Nat} (h : P.testBit k = false) : P % 2 ^ k = P % 2 ^ (k + 1) := by
  apply Nat.eq_of_testBit_eq
  intro i
  rw [Nat.testBit_mod_two_pow, Nat.testBit_mod_two_pow]
  by_cases e : k = i
  · subst e; simp [h]
  · have e1 : decide (i < k + 1) = decide (i < k) := decide_eq_decide.mpr (by omega)
    rw [e1]
theorem and_sub {S P : Nat} (h : nd S P = 0) : S &&& P = S := by
  apply Nat.eq_of_testBit_eq
  intro i
  rw [Nat.testBit_and]
  have := nd_zero.mp h i
  revert this
  cases S.testBit i <;> simp
theorem b0_of {b b0 x : Bool} (h : b = (b0 && x)) (hb : b = true) : b0 = true := by
  rw [hb] at h
  exact (Bool.and_eq_true_iff.mp h.symm).1
theorem core_sub {y n : Nat → Nat} {P S : Nat} {b b0 x : Bool} (h0 : b0 = ((nd S P == 0) && !cB y n S)) (h : b = (b0 && x)) (hb : b = true) : nd S P = 0 := by
  rw [h0] at h
  have := b0_of h hb
  simp at this
  exact this.1
theorem all_t {b b0 : Bool} {g : Nat → Bool} {k : Nat} (h : b = (b0 && allN g k)) (hb : b = true) (hg : g k = true) : true = (b0 && allN g (k + 1)) := by
  rw [hb] at h
  simp [allN, hg, ← h]
theorem all_f {b b0 : Bool} {g : Nat → Bool} {k : Nat} (h : b = (b0 && allN g k)) (hb : b = false) : false = (b0 && allN g (k + 1)) := by
  rw [hb] at h
  simp only [allN, ← Bool.and_assoc, ← h]
  rfl
theorem all_g {b0 : Bool} {g : Nat → Bool} {k : Nat} (hg : g k = false) : false = (b0 && allN g (k + 1)) := by
  simp [allN, hg]
theorem hB2_1 {a b v : Nat} (h : ¬ a &&& v = 0) : hB2 a b v = true := by
  unfold hB2
  rw [bne_iff_ne.mpr h]; rfl
theorem hB2_2 {a b v : Nat} (h : ¬ nd b v = 0) : hB2 a b v = true := by
  unfold hB2
  rw [bne_iff_ne.mpr h]; exact Bool.or_true _
theorem hB2_0 {a b v : Nat} (h1 : a &&& v = 0) (h2 : nd b v = 0) : hB2 a b v = false := by
  unfold hB2
  rw [h1, h2]; rfl
end
section
set_option maxRecDepth 100000
set_option maxHeartbeats 4000000 in
set_option maxRecDepth 100000 in
/-- letters(set) -/
theorem mX1_letters (l : Launch) (dC : Nat → ClassId) (dI : Nat → Nat → Nat) (ad : Nat → Nat) (cA : Nat → ClassId) (P : Nat) (y n : Nat → Nat) (f : Nat → Int32) (x : Int32)  : PI l yX1_letters cX1_letters 2 (some .boolean) ({ frames := 0, cells := 0, slots := 0, locals := 0 } : Room) [.ref (ad 0), .int x] (dC, dI) (wM ad cA P y n f) (tM cA) (bI (setB x)) := by
  refine PI.of (by decide) (Nat.le_of_ble_eq_true rfl) ?_
  intro p e s m below meth c hx hb hr hlocks hml hown hts hK H locs hP hS ls hl
  have hown : s.vm.findClass "CoreFinderModel" = some m.cls := hown
  have hl : lv_has ls 2 [(0, .ref (ad 0)), (1, .int x)] := hl
  refine lv_iload_n hx hb dX1_letters_0 rfl (lv_at hl 1 rfl) ?_
  refine lv_if_lt (tgt := 14) hx hb dX1_letters_1 (by decide) (fun c_1 => ?_) (fun c_1 => ?_)
  · skip
    refine lv_iconst (v := (nI 0)) hx hb dX1_letters_14 (by decide) ?_
    exact pi_retz hx hb hr hlocks hS (Or.inl rfl) (by rw [setB_neg c_1]; rfl) dX1_letters_15
  · skip
    refine lv_iload_n hx hb dX1_letters_4 rfl (lv_at hl 1 rfl) ?_
    refine lv_bipush (v := (nI 15)) hx hb dX1_letters_5 (by decide) ?_
    refine lv_icmp_gt (tgt := 14) hx hb dX1_letters_7 (by decide) (fun c_7 => ?_) (fun c_7 => ?_)
    · skip
      refine lv_iconst (v := (nI 0)) hx hb dX1_letters_14 (by decide) ?_
      exact pi_retz hx hb hr hlocks hS (Or.inl rfl) (by rw [setB_gt c_7]; rfl) dX1_letters_15
    · skip
      refine lv_iconst (v := (nI 1)) hx hb dX1_letters_10 (by decide) ?_
      refine lv_goto (tgt := 15) hx hb dX1_letters_11 (by decide) ?_
      exact pi_retz hx hb hr hlocks hS (Or.inr rfl) (by rw [setB_in c_1 c_7]; rfl) dX1_letters_15
set_option maxHeartbeats 4000000 in
set_option maxRecDepth 100000 in
/-- add(pos, neg) -/
theorem mX1_add (l : Launch) (dC : Nat → ClassId) (dI : Nat → Nat → Nat) (ad : Nat → Nat) (cA : Nat → ClassId) (P : Nat) (y n : Nat → Nat) (f : Nat → Int32) (a b : Nat)  (sz : Nat) : MI l yX1_add cX1_add 4 (some .int) ({ frames := 1, cells := 0, slots := 0, locals := 21 } : Room) [.ref (ad 0), .int (nI a), .int (nI b)] (dC, dI) (wM ad cA P y n f) (tM cA) sz (addV P a b) (fun u : Nat × (Nat → Nat) × (Nat → Nat) => u = (addP P a b, addY y P a b a, addY n P a b b)) (fun u : Nat × (Nat → Nat) × (Nat → Nat) => wM ad cA u.1 u.2.1 u.2.2 f) := by
  refine MI.of (by decide) (Nat.le_of_ble_eq_true rfl) ?_
  intro p e s m below meth c hx hb hr hlocks hml hown hts hK A hA H locs hP hD hS ls hl
  have hown : s.vm.findClass "CoreFinderModel" = some m.cls := hown
  have hl : lv_has ls 4 [(0, .ref (ad 0)), (1, .int (nI a)), (2, .int (nI b))] := hl
  refine lv_aload_n hx hb dX1_add_0 rfl (lv_at hl 0 rfl) ?_
  refine lv_iload_n hx hb dX1_add_1 rfl (lv_at hl 1 rfl) ?_
  refine pi_callV (ws0 := (wM ad cA P y n f)) (rest := []) ⟨hx, hb, hml, hown, hts⟩ [.int (nI a)] (mX1_letters l dC dI ad cA P y n f (nI a)) (lw_V q187 q189 qs11 q20 q190) hdX1_letters ⟨Nat.le_of_ble_eq_true rfl, Nat.le_of_ble_eq_true rfl⟩ ⟨rfl, rfl⟩ hK hP (q0 := 0) (ci := 1) rfl rfl rfl hl.1 rfl (Nat.le_of_ble_eq_true rfl) dX1_add_2 ⟨Nat.zero_le _, Nat.zero_le _⟩ hP hS (fun H locs hP hS => ?_)
  refine nv_eqB hx hb 16 dX1_add_5 (by decide) (fun c_5 => ?_) (fun c_5 => ?_)
  · skip
    refine lv_iconst (v := (-1)) hx hb dX1_add_16 (by decide) ?_
    exact mi_ret hx hb hr hlocks hS (P, y, n) hP hD (by simp [addP, addY, (add_none1 (P := P) (b := b) c_5).1]) (add_none1 c_5).2.symm dX1_add_17
  · skip
    refine lv_aload_n hx hb dX1_add_8 rfl (lv_at hl 0 rfl) ?_
    refine lv_iload_n hx hb dX1_add_9 rfl (lv_at hl 2 rfl) ?_
    refine pi_callV (ws0 := (wM ad cA P y n f)) (rest := []) ⟨hx, hb, hml, hown, hts⟩ [.int (nI b)] (mX1_letters l dC dI ad cA P y n f (nI b)) (lw_V q187 q189 qs11 q20 q190) hdX1_letters ⟨Nat.le_of_ble_eq_true rfl, Nat.le_of_ble_eq_true rfl⟩ ⟨rfl, rfl⟩ hK hP (q0 := 0) (ci := 1) rfl rfl rfl hl.1 rfl (Nat.le_of_ble_eq_true rfl) dX1_add_10 ⟨Nat.zero_le _, Nat.zero_le _⟩ hP hS (fun H locs hP hS => ?_)
    refine nv_neB hx hb 18 dX1_add_13 (by decide) (fun c_13 => ?_) (fun c_13 => ?_)
    · skip
      refine lv_iconst (v := (nI 0)) hx hb dX1_add_18 (by decide) ?_
      refine lv_istore_n (lv' := [(3, .int (nI 0)), (0, .ref (ad 0)), (1, .int (nI a)), (2, .int (nI b))]) hx hb dX1_add_19 rfl hl (by decide) rfl (fun ls hl => ?_)
      have loop_20 : ∀ (n_ : Nat) (k : Nat), (k ≤ 7) → (∀ t, t < k → P.testBit t = true) → 7 - k < n_ → ∀ (H : Heap) (locs : List Loc), va_P (dC, dI) vwCl (wM ad cA P y n f) H → va_D A (wM ad cA P y n f) → va_S A s.heap H locs → ∀ (ls : Array Slot), lv_has ls 4 [(0, .ref (ad 0)), (1, .int (nI a)), (2, .int (nI b)), (3, .int (nI k))] → W p l e ({ frames := 1, cells := 0, slots := 0, locals := 21 } : Room) s m ([.ref (ad 0), .int (nI a), .int (nI b)] : List Value).toArray below meth c H locs 0 0 (QI below A (dC, dI) (addV P a b) (fun u : Nat × (Nat → Nat) × (Nat → Nat) => u = (addP P a b, addY y P a b a, addY n P a b b)) (fun u : Nat × (Nat → Nat) × (Nat → Nat) => wM ad cA u.1 u.2.1 u.2.2 f) ([.ref (ad 0), .int (nI a), .int (nI b)] : List Value).toArray s) (F0 m 20 ls []) := by
        intro n_
        induction n_ with
        | zero =>
          intro k hk hno hlt
          exact absurd hlt (Nat.not_lt_zero _)
        | succ n_ ih_20 =>
          intro k hk hno hlt_20 H locs hP hD hS ls hl
          refine lv_iload_n hx hb dX1_add_20 rfl (lv_at hl 3 rfl) ?_
          refine lv_bipush (v := (nI 7)) hx hb dX1_add_21 (by decide) ?_
          refine nv_cgeN hx hb 64 (by first | omega | exact nd_lt (by omega) | exact Nat.lt_of_le_of_lt Nat.and_le_left (by omega) | exact Nat.lt_of_le_of_lt Nat.and_le_right (by omega)) (by first | omega | exact nd_lt (by omega) | exact Nat.lt_of_le_of_lt Nat.and_le_left (by omega) | exact Nat.lt_of_le_of_lt Nat.and_le_right (by omega)) dX1_add_23 (by decide) (fun c_23 => ?_) (fun c_23 => ?_)
          · skip
            refine lv_bipush (v := (-2)) hx hb dX1_add_64 (by decide) ?_
            exact mi_ret hx hb hr hlocks hS (P, y, n) hP hD (by simp [addP, addY, (add_full (P := P) c_5 c_13 c_23 hno).1]) (add_full c_5 c_13 c_23 hno).2.symm dX1_add_66
          · skip
            refine lv_aload_n hx hb dX1_add_26 rfl (lv_at hl 0 rfl) ?_
            refine va_get (D := (dC, dI)) (ci := 1) (v := .ref (ad 1)) (C := RX1) (T := TX1) (N := 4) hx hb hts in_X1 hown hK hP 0 rfl rfl 0 (by decide) (hts _ q168) (fun _ h9 => h9) rfl dX1_add_27 ?_
            refine lv_iload_n hx hb dX1_add_30 rfl (lv_at hl 3 rfl) ?_
            refine nv_zald hx hb hK hP 1 0 rfl rfl (by first | omega | exact nd_lt (by omega) | exact Nat.lt_of_le_of_lt Nat.and_le_left (by omega) | exact Nat.lt_of_le_of_lt Nat.and_le_right (by omega)) (by decide) dX1_add_31 ?_
            refine nv_neB hx hb 58 dX1_add_32 (by decide) (fun c_32 => ?_) (fun c_32 => ?_)
            · skip
              refine lv_iinc (v := (nI (k + 1))) (lv' := [(3, .int (nI (k + 1))), (0, .ref (ad 0)), (1, .int (nI a)), (2, .int (nI b))]) hx hb dX1_add_58 hl (k := 3) rfl (nI_1 k) (by decide) rfl (fun ls hl => ?_)
              refine lv_goto (tgt := 20) hx hb dX1_add_61 (by decide) ?_
              exact ih_20 (k + 1) (by omega) (lt_step hno c_32) (by omega) _ _ hP hD hS ls (lv_sub hl [1, 2, 3, 0] rfl)
            · skip
              refine lv_aload_n hx hb dX1_add_35 rfl (lv_at hl 0 rfl) ?_
              refine va_get (D := (dC, dI)) (ci := 1) (v := .ref (ad 1)) (C := RX1) (T := TX1) (N := 4) hx hb hts in_X1 hown hK hP 0 rfl rfl 0 (by decide) (hts _ q168) (fun _ h9 => h9) rfl dX1_add_36 ?_
              refine lv_iload_n hx hb dX1_add_39 rfl (lv_at hl 3 rfl) ?_
              refine lv_iconst (v := (nI 1)) hx hb dX1_add_40 (by decide) ?_
              refine nv_zast hx hb hK hP hD hS 1 0 rfl rfl (fun j => bI ((P ||| 2 ^ k).testBit j)) (by first | omega | exact nd_lt (by omega) | exact Nat.lt_of_le_of_lt Nat.and_le_left (by omega) | exact Nat.lt_of_le_of_lt Nat.and_le_right (by omega)) (by decide) (upd_t _ _) dX1_add_41 (fun H locs hP hD hS => ?_)
              have hP : va_P (dC, dI) vwCl (wM ad cA (P ||| 2 ^ k) y n f) H := hP
              have hD : va_D A (wM ad cA (P ||| 2 ^ k) y n f) := hD
              refine lv_aload_n hx hb dX1_add_42 rfl (lv_at hl 0 rfl) ?_
              refine va_get (D := (dC, dI)) (ci := 1) (v := .ref (ad 2)) (C := RX1) (T := TX1) (N := 4) hx hb hts in_X1 hown hK hP 0 rfl rfl 1 (by decide) (hts _ q169) (fun _ h9 => h9) rfl dX1_add_43 ?_
              refine lv_iload_n hx hb dX1_add_46 rfl (lv_at hl 3 rfl) ?_
              refine lv_iload_n hx hb dX1_add_47 rfl (lv_at hl 1 rfl) ?_
              refine nv_iast hx hb hK hP hD hS 2 1 rfl rfl (fun j => nI (updN y k a j)) (by first | omega | exact nd_lt (by omega) | exact Nat.lt_of_le_of_lt Nat.and_le_left (by omega) | exact Nat.lt_of_le_of_lt Nat.and_le_right (by omega)) (by decide) (upd_nI _ _ _) dX1_add_48 (fun H locs hP hD hS => ?_)
              have hP : va_P (dC, dI) vwCl (wM ad cA (P ||| 2 ^ k) (updN y k a) n f) H := hP
              have hD : va_D A (wM ad cA (P ||| 2 ^ k) (updN y k a) n f) := hD
              refine lv_aload_n hx hb dX1_add_49 rfl (lv_at hl 0 rfl) ?_
              refine va_get (D := (dC, dI)) (ci := 1) (v := .ref (ad 3)) (C := RX1) (T := TX1) (N := 4) hx hb hts in_X1 hown hK hP 0 rfl rfl 2 (by decide) (hts _ q170) (fun _ h9 => h9) rfl dX1_add_50 ?_
              refine lv_iload_n hx hb dX1_add_53 rfl (lv_at hl 3 rfl) ?_
              refine lv_iload_n hx hb dX1_add_54 rfl (lv_at hl 2 rfl) ?_
              refine nv_iast hx hb hK hP hD hS 3 2 rfl rfl (fun j => nI (updN n k b j)) (by first | omega | exact nd_lt (by omega) | exact Nat.lt_of_le_of_lt Nat.and_le_left (by omega) | exact Nat.lt_of_le_of_lt Nat.and_le_right (by omega)) (by decide) (upd_nI _ _ _) dX1_add_55 (fun H locs hP hD hS => ?_)
              have hP : va_P (dC, dI) vwCl (wM ad cA (P ||| 2 ^ k) (updN y k a) (updN n k b) f) H := hP
              have hD : va_D A (wM ad cA (P ||| 2 ^ k) (updN y k a) (updN n k b) f) := hD
              refine lv_iload_n hx hb dX1_add_56 rfl (lv_at hl 3 rfl) ?_
              exact mi_ret hx hb hr hlocks hS (P ||| 2 ^ k, updN y k a, updN n k b) hP hD (by simp [addP, addY, (add_some (P := P) c_5 c_13 c_23 hno c_32).1]) (add_some c_5 c_13 c_23 hno c_32).2.symm dX1_add_57
      exact loop_20 (7 - 0 + 1) 0 (by omega) (fun t h => absurd h (Nat.not_lt_zero t)) (Nat.lt_succ_self _) _ _ hP hD hS ls (lv_sub hl [1, 2, 3, 0] rfl)
    · skip
      refine lv_iconst (v := (-1)) hx hb dX1_add_16 (by decide) ?_
      exact mi_ret hx hb hr hlocks hS (P, y, n) hP hD (by simp [addP, addY, (add_none2 (P := P) (a := a) c_13).1]) (add_none2 c_13).2.symm dX1_add_17
set_option maxHeartbeats 4000000 in
set_option maxRecDepth 100000 in
/-- remove(k) -/
theorem mX1_remove (l : Launch) (dC : Nat → ClassId) (dI : Nat → Nat → Nat) (ad : Nat → Nat) (cA : Nat → ClassId) (P : Nat) (y n : Nat → Nat) (f : Nat → Int32) (a : Nat) (ha : a < 2 ^ 32) (sz : Nat) : MI l yX1_remove cX1_remove 2 (some .boolean) ({ frames := 0, cells := 0, slots := 0, locals := 0 } : Room) [.ref (ad 0), .int (nI a)] (dC, dI) (wM ad cA P y n f) (tM cA) sz (bI (hasX P (nI a))) (fun u : Nat => u = remP P a) (fun u : Nat => wM ad cA u y n f) := by
  refine MI.of (by decide) (Nat.le_of_ble_eq_true rfl) ?_
  intro p e s m below meth c hx hb hr hlocks hml hown hts hK A hA H locs hP hD hS ls hl
  have hown : s.vm.findClass "CoreFinderModel" = some m.cls := hown
  have hl : lv_has ls 2 [(0, .ref (ad 0)), (1, .int (nI a))] := hl
  refine lv_iload_n hx hb dX1_remove_0 rfl (lv_at hl 1 rfl) ?_
  refine lv_if_lt (tgt := 19) hx hb dX1_remove_1 (by decide) (fun c_1 => ?_) (fun c_1 => ?_)
  · skip
    refine lv_iconst (v := (nI 0)) hx hb dX1_remove_19 (by decide) ?_
    exact mi_retz hx hb hr hlocks hS P hP hD (by simp [remP, hasX_neg c_1]) (Or.inl rfl) (by rw [hasX_neg c_1]; rfl) dX1_remove_20
  · skip
    refine lv_iload_n hx hb dX1_remove_4 rfl (lv_at hl 1 rfl) ?_
    refine lv_bipush (v := (nI 6)) hx hb dX1_remove_5 (by decide) ?_
    refine lv_icmp_gt (tgt := 19) hx hb dX1_remove_7 (by decide) (fun c_7 => ?_) (fun c_7 => ?_)
    · skip
      refine lv_iconst (v := (nI 0)) hx hb dX1_remove_19 (by decide) ?_
      exact mi_retz hx hb hr hlocks hS P hP hD (by simp [remP, hasX_gt6 ha c_7]) (Or.inl rfl) (by rw [hasX_gt6 ha c_7]; rfl) dX1_remove_20
    · skip
      have ha7 : a < 7 := ix6 ha c_1 c_7
      refine lv_aload_n hx hb dX1_remove_10 rfl (lv_at hl 0 rfl) ?_
      refine va_get (D := (dC, dI)) (ci := 1) (v := .ref (ad 1)) (C := RX1) (T := TX1) (N := 4) hx hb hts in_X1 hown hK hP 0 rfl rfl 0 (by decide) (hts _ q168) (fun _ h9 => h9) rfl dX1_remove_11 ?_
      refine lv_iload_n hx hb dX1_remove_14 rfl (lv_at hl 1 rfl) ?_
      refine nv_zald hx hb hK hP 1 0 rfl rfl (by first | omega | exact nd_lt (by omega) | exact Nat.lt_of_le_of_lt Nat.and_le_left (by omega) | exact Nat.lt_of_le_of_lt Nat.and_le_right (by omega)) (by decide) dX1_remove_15 ?_
      refine nv_neB hx hb 21 dX1_remove_16 (by decide) (fun c_16 => ?_) (fun c_16 => ?_)
      · skip
        refine lv_aload_n hx hb dX1_remove_21 rfl (lv_at hl 0 rfl) ?_
        refine va_get (D := (dC, dI)) (ci := 1) (v := .ref (ad 1)) (C := RX1) (T := TX1) (N := 4) hx hb hts in_X1 hown hK hP 0 rfl rfl 0 (by decide) (hts _ q168) (fun _ h9 => h9) rfl dX1_remove_22 ?_
        refine lv_iload_n hx hb dX1_remove_25 rfl (lv_at hl 1 rfl) ?_
        refine lv_iconst (v := (nI 0)) hx hb dX1_remove_26 (by decide) ?_
        refine nv_zast hx hb hK hP hD hS 1 0 rfl rfl (fun j => bI ((nd P (2 ^ a)).testBit j)) (by first | omega | exact nd_lt (by omega) | exact Nat.lt_of_le_of_lt Nat.and_le_left (by omega) | exact Nat.lt_of_le_of_lt Nat.and_le_right (by omega)) (by decide) (upd_d _ _) dX1_remove_27 (fun H locs hP hD hS => ?_)
        have hP : va_P (dC, dI) vwCl (wM ad cA (nd P (2 ^ a)) y n f) H := hP
        have hD : va_D A (wM ad cA (nd P (2 ^ a)) y n f) := hD
        refine lv_iconst (v := (nI 1)) hx hb dX1_remove_28 (by decide) ?_
        exact mi_retz hx hb hr hlocks hS (nd P (2 ^ a)) hP hD (by simp [remP, hasX_nI ha7, c_16]) (Or.inr rfl) (by rw [hasX_nI ha7, c_16]; rfl) dX1_remove_29
      · skip
        refine lv_iconst (v := (nI 0)) hx hb dX1_remove_19 (by decide) ?_
        exact mi_retz hx hb hr hlocks hS P hP hD (by simp [remP, hasX_nI ha7, c_16]) (Or.inl rfl) (by rw [hasX_nI ha7, c_16]; rfl) dX1_remove_20
set_option maxHeartbeats 4000000 in
set_option maxRecDepth 100000 in
/-- clauses() -/
theorem mX1_clauses (l : Launch) (dC : Nat → ClassId) (dI : Nat → Nat → Nat) (ad : Nat → Nat) (cA : Nat → ClassId) (P : Nat) (y n : Nat → Nat) (f : Nat → Int32) (hp7 : P < 128) : PI l yX1_clauses cX1_clauses 3 (some .int) ({ frames := 0, cells := 0, slots := 0, locals := 0 } : Room) [.ref (ad 0)] (dC, dI) (wM ad cA P y n f) (tM cA) (nI P) := by
  refine PI.of (by decide) (Nat.le_of_ble_eq_true rfl) ?_
  intro p e s m below meth c hx hb hr hlocks hml hown hts hK H locs hP hS ls hl
  have hown : s.vm.findClass "CoreFinderModel" = some m.cls := hown
  have hl : lv_has ls 3 [(0, .ref (ad 0))] := hl
  refine lv_iconst (v := (nI 0)) hx hb dX1_clauses_0 (by decide) ?_
  refine lv_istore_n (lv' := [(1, .int (nI 0)), (0, .ref (ad 0))]) hx hb dX1_clauses_1 rfl hl (by decide) rfl (fun ls hl => ?_)
  refine lv_iconst (v := (nI 0)) hx hb dX1_clauses_2 (by decide) ?_
  refine lv_istore_n (lv' := [(2, .int (nI 0)), (1, .int (nI 0)), (0, .ref (ad 0))]) hx hb dX1_clauses_3 rfl hl (by decide) rfl (fun ls hl => ?_)
  have loop_4 : ∀ (n_ : Nat) (q : Nat) (k : Nat), (k ≤ 7) → (q = P % 2 ^ k) → 7 - k < n_ → ∀ (H : Heap) (locs : List Loc), va_P (dC, dI) vwCl (wM ad cA P y n f) H → va_S (fun _ => False) s.heap H locs → ∀ (ls : Array Slot), lv_has ls 3 [(0, .ref (ad 0)), (1, .int (nI q)), (2, .int (nI k))] → W p l e ({ frames := 0, cells := 0, slots := 0, locals := 0 } : Room) s m ([.ref (ad 0)] : List Value).toArray below meth c H locs 0 0 (QP below (nI P) ([.ref (ad 0)] : List Value).toArray s) (F0 m 4 ls []) := by
    intro n_
    induction n_ with
    | zero =>
      intro q k hk hq hlt
      exact absurd hlt (Nat.not_lt_zero _)
    | succ n_ ih_4 =>
      intro q k hk hq hlt_4 H locs hP hS ls hl
      refine lv_iload_n hx hb dX1_clauses_4 rfl (lv_at hl 2 rfl) ?_
      refine lv_bipush (v := (nI 7)) hx hb dX1_clauses_5 (by decide) ?_
      refine nv_cgeN hx hb 35 (by first | omega | exact nd_lt (by omega) | exact Nat.lt_of_le_of_lt Nat.and_le_left (by omega) | exact Nat.lt_of_le_of_lt Nat.and_le_right (by omega)) (by first | omega | exact nd_lt (by omega) | exact Nat.lt_of_le_of_lt Nat.and_le_left (by omega) | exact Nat.lt_of_le_of_lt Nat.and_le_right (by omega)) dX1_clauses_7 (by decide) (fun c_7 => ?_) (fun c_7 => ?_)
      · skip
        refine lv_iload_n hx hb dX1_clauses_35 rfl (lv_at hl 1 rfl) ?_
        exact pi_ret hx hb hr hlocks hS (by rw [hq, show k = 7 by omega, Nat.mod_eq_of_lt (by omega)]) dX1_clauses_36
      · skip
        refine lv_aload_n hx hb dX1_clauses_10 rfl (lv_at hl 0 rfl) ?_
        refine va_get (D := (dC, dI)) (ci := 1) (v := .ref (ad 1)) (C := RX1) (T := TX1) (N := 4) hx hb hts in_X1 hown hK hP 0 rfl rfl 0 (by decide) (hts _ q168) (fun _ h9 => h9) rfl dX1_clauses_11 ?_
        refine lv_iload_n hx hb dX1_clauses_14 rfl (lv_at hl 2 rfl) ?_
        refine nv_zald hx hb hK hP 1 0 rfl rfl (by first | omega | exact nd_lt (by omega) | exact Nat.lt_of_le_of_lt Nat.and_le_left (by omega) | exact Nat.lt_of_le_of_lt Nat.and_le_right (by omega)) (by decide) dX1_clauses_15 ?_
        refine nv_eqB hx hb 27 dX1_clauses_16 (by decide) (fun c_16 => ?_) (fun c_16 => ?_)
        · skip
          refine lv_iload_n hx hb dX1_clauses_27 rfl (lv_at hl 1 rfl) ?_
          refine lv_istore_n (lv' := [(1, .int (nI q)), (0, .ref (ad 0)), (2, .int (nI k))]) hx hb dX1_clauses_28 rfl hl (by decide) rfl (fun ls hl => ?_)
          refine lv_iinc (v := (nI (k + 1))) (lv' := [(2, .int (nI (k + 1))), (1, .int (nI q)), (0, .ref (ad 0))]) hx hb dX1_clauses_29 hl (k := 2) rfl (nI_1 k) (by decide) rfl (fun ls hl => ?_)
          refine lv_goto (tgt := 4) hx hb dX1_clauses_32 (by decide) ?_
          exact ih_4 q (k + 1) (by omega) (hq.trans (mod_f c_16)) (by omega) _ _ hP hS ls (lv_sub hl [2, 1, 0] rfl)
        · skip
          refine lv_iload_n hx hb dX1_clauses_19 rfl (lv_at hl 1 rfl) ?_
          refine lv_iconst (v := (nI 1)) hx hb dX1_clauses_20 (by decide) ?_
          refine lv_iload_n hx hb dX1_clauses_21 rfl (lv_at hl 2 rfl) ?_
          refine nv_shl1 hx hb (by first | omega | exact nd_lt (by omega) | exact Nat.lt_of_le_of_lt Nat.and_le_left (by omega) | exact Nat.lt_of_le_of_lt Nat.and_le_right (by omega)) dX1_clauses_22 ?_
          refine nv_or hx hb dX1_clauses_23 ?_
          refine lv_goto (tgt := 28) hx hb dX1_clauses_24 (by decide) ?_
          refine lv_istore_n (lv' := [(1, .int (nI (q ||| (2 ^ k)))), (0, .ref (ad 0)), (2, .int (nI k))]) hx hb dX1_clauses_28 rfl hl (by decide) rfl (fun ls hl => ?_)
          refine lv_iinc (v := (nI (k + 1))) (lv' := [(2, .int (nI (k + 1))), (1, .int (nI (q ||| (2 ^ k)))), (0, .ref (ad 0))]) hx hb dX1_clauses_29 hl (k := 2) rfl (nI_1 k) (by decide) rfl (fun ls hl => ?_)
          refine lv_goto (tgt := 4) hx hb dX1_clauses_32 (by decide) ?_
          exact ih_4 (q ||| (2 ^ k)) (k + 1) (by omega) (by rw [hq, mod_t c_16]) (by omega) _ _ hP hS ls (lv_sub hl [2, 1, 0] rfl)
  exact loop_4 (7 - 0 + 1) 0 0 (by omega) (by omega) (Nat.lt_succ_self _) _ _ hP hS ls (lv_sub hl [2, 1, 0] rfl)
set_option maxHeartbeats 4000000 in
set_option maxRecDepth 100000 in
/-- holds(pos, neg, v) -/
theorem mX1_holds (l : Launch) (dC : Nat → ClassId) (dI : Nat → Nat → Nat) (ad : Nat → Nat) (cA : Nat → ClassId) (P : Nat) (y n : Nat → Nat) (f : Nat → Int32) (a b v : Nat) (hb2 : b < 2 ^ 32) (hv : v < 16) : PI l yX1_holds cX1_holds 4 (some .boolean) ({ frames := 0, cells := 0, slots := 0, locals := 0 } : Room) [.ref (ad 0), .int (nI a), .int (nI b), .int (nI v)] (dC, dI) (wM ad cA P y n f) (tM cA) (bI (hB2 a b v)) := by
  refine PI.of (by decide) (Nat.le_of_ble_eq_true rfl) ?_
  intro p e s m below meth c hx hb hr hlocks hml hown hts hK H locs hP hS ls hl
  have hown : s.vm.findClass "CoreFinderModel" = some m.cls := hown
  have hl : lv_has ls 4 [(0, .ref (ad 0)), (1, .int (nI a)), (2, .int (nI b)), (3, .int (nI v))] := hl
  refine lv_iload_n hx hb dX1_holds_0 rfl (lv_at hl 1 rfl) ?_
  refine lv_iload_n hx hb dX1_holds_1 rfl (lv_at hl 3 rfl) ?_
  refine nv_and hx hb dX1_holds_2 ?_
  refine nv_neN hx hb 14 (by first | omega | exact nd_lt (by omega) | exact Nat.lt_of_le_of_lt Nat.and_le_left (by omega) | exact Nat.lt_of_le_of_lt Nat.and_le_right (by omega)) dX1_holds_3 (by decide) (fun c_3 => ?_) (fun c_3 => ?_)
  · skip
    refine lv_iconst (v := (nI 1)) hx hb dX1_holds_14 (by decide) ?_
    refine lv_goto (tgt := 19) hx hb dX1_holds_15 (by decide) ?_
    exact pi_retz hx hb hr hlocks hS (Or.inr rfl) (by rw [hB2_1 c_3]; rfl) dX1_holds_19
  · skip
    refine lv_iload_n hx hb dX1_holds_6 rfl (lv_at hl 2 rfl) ?_
    refine lv_iload_n hx hb dX1_holds_7 rfl (lv_at hl 3 rfl) ?_
    refine lv_iconst (v := (-1)) hx hb dX1_holds_8 (by decide) ?_
    refine lv_ixor hx hb dX1_holds_9 ?_
    refine nv_andn hx hb dX1_holds_10 ?_
    refine nv_eqN hx hb 18 (by first | omega | exact nd_lt (by omega) | exact Nat.lt_of_le_of_lt Nat.and_le_left (by omega) | exact Nat.lt_of_le_of_lt Nat.and_le_right (by omega)) dX1_holds_11 (by decide) (fun c_11 => ?_) (fun c_11 => ?_)
    · skip
      refine lv_iconst (v := (nI 0)) hx hb dX1_holds_18 (by decide) ?_
      exact pi_retz hx hb hr hlocks hS (Or.inl rfl) (by rw [hB2_0 c_3 c_11]; rfl) dX1_holds_19
    · skip
      refine lv_iconst (v := (nI 1)) hx hb dX1_holds_14 (by decide) ?_
      refine lv_goto (tgt := 19) hx hb dX1_holds_15 (by decide) ?_
      exact pi_retz hx hb hr hlocks hS (Or.inr rfl) (by rw [hB2_2 c_11]; rfl) dX1_holds_19
set_option maxHeartbeats 4000000 in
set_option maxRecDepth 100000 in
/-- allHold(set, v) -/
theorem mX1_allHold (l : Launch) (dC : Nat → ClassId) (dI : Nat → Nat → Nat) (ad : Nat → Nat) (cA : Nat → ClassId) (P : Nat) (y n : Nat → Nat) (f : Nat → Int32) (x V : Nat) (hn : ∀ k, n k < 16) (hV : V < 16) : PI l yX1_allHold cX1_allHold 5 (some .boolean) ({ frames := 1, cells := 0, slots := 0, locals := 23 } : Room) [.ref (ad 0), .int (nI x), .int (nI V)] (dC, dI) (wM ad cA P y n f) (tM cA) (bI (aB y n (x &&& P) V)) := by
  refine PI.of (by decide) (Nat.le_of_ble_eq_true rfl) ?_
  intro p e s m below meth c hx hb hr hlocks hml hown hts hK H locs hP hS ls hl
  have hown : s.vm.findClass "CoreFinderModel" = some m.cls := hown
  have hl : lv_has ls 5 [(0, .ref (ad 0)), (1, .int (nI x)), (2, .int (nI V))] := hl
  refine lv_iconst (v := (nI 1)) hx hb dX1_allHold_0 (by decide) ?_
  refine lv_istore_n (lv' := [(3, .int (nI 1)), (0, .ref (ad 0)), (1, .int (nI x)), (2, .int (nI V))]) hx hb dX1_allHold_1 rfl hl (by decide) rfl (fun ls hl => ?_)
  refine lv_iconst (v := (nI 0)) hx hb dX1_allHold_2 (by decide) ?_
  refine lv_istore (lv' := [(4, .int (nI 0)), (3, .int (nI 1)), (0, .ref (ad 0)), (1, .int (nI x)), (2, .int (nI V))]) hx hb dX1_allHold_3 hl (by decide) rfl (fun ls hl => ?_)
  have loop_5 : ∀ (n_ : Nat) (b : Bool) (k : Nat), (k ≤ 7) → (b = (true && allN (fun k => !(x &&& P).testBit k || hB y n V k) k)) → 7 - k < n_ → ∀ (H : Heap) (locs : List Loc), va_P (dC, dI) vwCl (wM ad cA P y n f) H → va_S (fun _ => False) s.heap H locs → ∀ (ls : Array Slot), lv_has ls 5 [(0, .ref (ad 0)), (1, .int (nI x)), (2, .int (nI V)), (3, .int (bI b)), (4, .int (nI k))] → W p l e ({ frames := 1, cells := 0, slots := 0, locals := 23 } : Room) s m ([.ref (ad 0), .int (nI x), .int (nI V)] : List Value).toArray below meth c H locs 0 0 (QP below (bI (aB y n (x &&& P) V)) ([.ref (ad 0), .int (nI x), .int (nI V)] : List Value).toArray s) (F0 m 5 ls []) := by
    intro n_
    induction n_ with
    | zero =>
      intro b k hk hb1 hlt
      exact absurd hlt (Nat.not_lt_zero _)
    | succ n_ ih_5 =>
      intro b k hk hb1 hlt_5 H locs hP hS ls hl
      have hnk := hn k
      refine lv_iload hx hb dX1_allHold_5 (lv_at hl 4 rfl) ?_
      refine lv_bipush (v := (nI 7)) hx hb dX1_allHold_7 (by decide) ?_
      refine nv_cgeN hx hb 69 (by first | omega | exact nd_lt (by omega) | exact Nat.lt_of_le_of_lt Nat.and_le_left (by omega) | exact Nat.lt_of_le_of_lt Nat.and_le_right (by omega)) (by first | omega | exact nd_lt (by omega) | exact Nat.lt_of_le_of_lt Nat.and_le_left (by omega) | exact Nat.lt_of_le_of_lt Nat.and_le_right (by omega)) dX1_allHold_9 (by decide) (fun c_9 => ?_) (fun c_9 => ?_)
      · skip
        refine lv_iload_n hx hb dX1_allHold_69 rfl (lv_at hl 3 rfl) ?_
        exact pi_retz hx hb hr hlocks hS (bI_01 _) (by rw [hb1, show k = 7 by omega]; rfl) dX1_allHold_70
      · skip
        refine lv_iload_n hx hb dX1_allHold_12 rfl (lv_at hl 3 rfl) ?_
        refine nv_eqB hx hb 61 dX1_allHold_13 (by decide) (fun c_13 => ?_) (fun c_13 => ?_)
        · skip
          refine lv_iconst (v := (nI 0)) hx hb dX1_allHold_61 (by decide) ?_
          refine lv_istore_n (lv' := [(3, .int (nI 0)), (0, .ref (ad 0)), (1, .int (nI x)), (2, .int (nI V)), (4, .int (nI k))]) hx hb dX1_allHold_62 rfl hl (by decide) rfl (fun ls hl => ?_)
          refine lv_iinc (v := (nI (k + 1))) (lv' := [(4, .int (nI (k + 1))), (3, .int (nI 0)), (0, .ref (ad 0)), (1, .int (nI x)), (2, .int (nI V))]) hx hb dX1_allHold_63 hl (k := 4) rfl (nI_1 k) (by decide) rfl (fun ls hl => ?_)
          refine lv_goto (tgt := 5) hx hb dX1_allHold_66 (by decide) ?_
          exact ih_5 false (k + 1) (by omega) (all_f hb1 c_13) (by omega) _ _ hP hS ls (lv_sub hl [2, 3, 4, 1, 0] rfl)
        · skip
          refine lv_iload_n hx hb dX1_allHold_16 rfl (lv_at hl 1 rfl) ?_
          refine lv_iload hx hb dX1_allHold_17 (lv_at hl 4 rfl) ?_
          refine lv_ishr hx hb dX1_allHold_19 ?_
          refine lv_iconst (v := (nI 1)) hx hb dX1_allHold_20 (by decide) ?_
          refine nv_bit hx hb (by first | omega | exact nd_lt (by omega) | exact Nat.lt_of_le_of_lt Nat.and_le_left (by omega) | exact Nat.lt_of_le_of_lt Nat.and_le_right (by omega)) dX1_allHold_21 ?_
          refine nv_eqB hx hb 57 dX1_allHold_22 (by decide) (fun c_22 => ?_) (fun c_22 => ?_)
          · skip
            refine lv_iconst (v := (nI 1)) hx hb dX1_allHold_57 (by decide) ?_
            refine lv_goto (tgt := 62) hx hb dX1_allHold_58 (by decide) ?_
            refine lv_istore_n (lv' := [(3, .int (nI 1)), (0, .ref (ad 0)), (1, .int (nI x)), (2, .int (nI V)), (4, .int (nI k))]) hx hb dX1_allHold_62 rfl hl (by decide) rfl (fun ls hl => ?_)
            refine lv_iinc (v := (nI (k + 1))) (lv' := [(4, .int (nI (k + 1))), (3, .int (nI 1)), (0, .ref (ad 0)), (1, .int (nI x)), (2, .int (nI V))]) hx hb dX1_allHold_63 hl (k := 4) rfl (nI_1 k) (by decide) rfl (fun ls hl => ?_)
            refine lv_goto (tgt := 5) hx hb dX1_allHold_66 (by decide) ?_
            exact ih_5 true (k + 1) (by omega) (all_t hb1 c_13 (by simp [c_22])) (by omega) _ _ hP hS ls (lv_sub hl [2, 3, 4, 1, 0] rfl)
          · skip
            refine lv_aload_n hx hb dX1_allHold_25 rfl (lv_at hl 0 rfl) ?_
            refine va_get (D := (dC, dI)) (ci := 1) (v := .ref (ad 1)) (C := RX1) (T := TX1) (N := 4) hx hb hts in_X1 hown hK hP 0 rfl rfl 0 (by decide) (hts _ q168) (fun _ h9 => h9) rfl dX1_allHold_26 ?_
            refine lv_iload hx hb dX1_allHold_29 (lv_at hl 4 rfl) ?_
            refine nv_zald hx hb hK hP 1 0 rfl rfl (by first | omega | exact nd_lt (by omega) | exact Nat.lt_of_le_of_lt Nat.and_le_left (by omega) | exact Nat.lt_of_le_of_lt Nat.and_le_right (by omega)) (by decide) dX1_allHold_31 ?_
            refine nv_eqB hx hb 57 dX1_allHold_32 (by decide) (fun c_32 => ?_) (fun c_32 => ?_)
            · skip
              refine lv_iconst (v := (nI 1)) hx hb dX1_allHold_57 (by decide) ?_
              refine lv_goto (tgt := 62) hx hb dX1_allHold_58 (by decide) ?_
              refine lv_istore_n (lv' := [(3, .int (nI 1)), (0, .ref (ad 0)), (1, .int (nI x)), (2, .int (nI V)), (4, .int (nI k))]) hx hb dX1_allHold_62 rfl hl (by decide) rfl (fun ls hl => ?_)
              refine lv_iinc (v := (nI (k + 1))) (lv' := [(4, .int (nI (k + 1))), (3, .int (nI 1)), (0, .ref (ad 0)), (1, .int (nI x)), (2, .int (nI V))]) hx hb dX1_allHold_63 hl (k := 4) rfl (nI_1 k) (by decide) rfl (fun ls hl => ?_)
              refine lv_goto (tgt := 5) hx hb dX1_allHold_66 (by decide) ?_
              exact ih_5 true (k + 1) (by omega) (all_t hb1 c_13 (by simp [c_32])) (by omega) _ _ hP hS ls (lv_sub hl [2, 3, 4, 1, 0] rfl)
            · skip
              refine lv_aload_n hx hb dX1_allHold_35 rfl (lv_at hl 0 rfl) ?_
              refine lv_aload_n hx hb dX1_allHold_36 rfl (lv_at hl 0 rfl) ?_
              refine va_get (D := (dC, dI)) (ci := 1) (v := .ref (ad 2)) (C := RX1) (T := TX1) (N := 4) hx hb hts in_X1 hown hK hP 0 rfl rfl 1 (by decide) (hts _ q169) (fun _ h9 => h9) rfl dX1_allHold_37 ?_
              refine lv_iload hx hb dX1_allHold_40 (lv_at hl 4 rfl) ?_
              refine nv_iald hx hb hK hP 2 1 rfl rfl (by first | omega | exact nd_lt (by omega) | exact Nat.lt_of_le_of_lt Nat.and_le_left (by omega) | exact Nat.lt_of_le_of_lt Nat.and_le_right (by omega)) (by decide) dX1_allHold_42 ?_
              refine lv_aload_n hx hb dX1_allHold_43 rfl (lv_at hl 0 rfl) ?_
              refine va_get (D := (dC, dI)) (ci := 1) (v := .ref (ad 3)) (C := RX1) (T := TX1) (N := 4) hx hb hts in_X1 hown hK hP 0 rfl rfl 2 (by decide) (hts _ q170) (fun _ h9 => h9) rfl dX1_allHold_44 ?_
              refine lv_iload hx hb dX1_allHold_47 (lv_at hl 4 rfl) ?_
              refine nv_iald hx hb hK hP 3 2 rfl rfl (by first | omega | exact nd_lt (by omega) | exact Nat.lt_of_le_of_lt Nat.and_le_left (by omega) | exact Nat.lt_of_le_of_lt Nat.and_le_right (by omega)) (by decide) dX1_allHold_49 ?_
              refine lv_iload_n hx hb dX1_allHold_50 rfl (lv_at hl 2 rfl) ?_
              refine pi_callV (ws0 := (wM ad cA P y n f)) (rest := []) ⟨hx, hb, hml, hown, hts⟩ [.int (nI (y k)), .int (nI (n k)), .int (nI V)] (mX1_holds l dC dI ad cA P y n f (y k) (n k) V (by omega) hV) (lw_V q211 q213 qs13 q20 q214) hdX1_holds ⟨Nat.le_of_ble_eq_true rfl, Nat.le_of_ble_eq_true rfl⟩ ⟨rfl, rfl⟩ hK hP (q0 := 0) (ci := 1) rfl rfl rfl hl.1 rfl (Nat.le_of_ble_eq_true rfl) dX1_allHold_51 ⟨Nat.zero_le _, Nat.zero_le _⟩ hP hS (fun H locs hP hS => ?_)
              refine nv_e (y := (bI (hB y n V k))) rfl ?_
              refine nv_eqB hx hb 61 dX1_allHold_54 (by decide) (fun c_54 => ?_) (fun c_54 => ?_)
              · skip
                refine lv_iconst (v := (nI 0)) hx hb dX1_allHold_61 (by decide) ?_
                refine lv_istore_n (lv' := [(3, .int (nI 0)), (0, .ref (ad 0)), (1, .int (nI x)), (2, .int (nI V)), (4, .int (nI k))]) hx hb dX1_allHold_62 rfl hl (by decide) rfl (fun ls hl => ?_)
                refine lv_iinc (v := (nI (k + 1))) (lv' := [(4, .int (nI (k + 1))), (3, .int (nI 0)), (0, .ref (ad 0)), (1, .int (nI x)), (2, .int (nI V))]) hx hb dX1_allHold_63 hl (k := 4) rfl (nI_1 k) (by decide) rfl (fun ls hl => ?_)
                refine lv_goto (tgt := 5) hx hb dX1_allHold_66 (by decide) ?_
                exact ih_5 false (k + 1) (by omega) (all_g (by simp [c_22, c_32, c_54])) (by omega) _ _ hP hS ls (lv_sub hl [2, 3, 4, 1, 0] rfl)
              · skip
                refine lv_iconst (v := (nI 1)) hx hb dX1_allHold_57 (by decide) ?_
                refine lv_goto (tgt := 62) hx hb dX1_allHold_58 (by decide) ?_
                refine lv_istore_n (lv' := [(3, .int (nI 1)), (0, .ref (ad 0)), (1, .int (nI x)), (2, .int (nI V)), (4, .int (nI k))]) hx hb dX1_allHold_62 rfl hl (by decide) rfl (fun ls hl => ?_)
                refine lv_iinc (v := (nI (k + 1))) (lv' := [(4, .int (nI (k + 1))), (3, .int (nI 1)), (0, .ref (ad 0)), (1, .int (nI x)), (2, .int (nI V))]) hx hb dX1_allHold_63 hl (k := 4) rfl (nI_1 k) (by decide) rfl (fun ls hl => ?_)
                refine lv_goto (tgt := 5) hx hb dX1_allHold_66 (by decide) ?_
                exact ih_5 true (k + 1) (by omega) (all_t hb1 c_13 (by simp [c_54])) (by omega) _ _ hP hS ls (lv_sub hl [2, 3, 4, 1, 0] rfl)
  exact loop_5 (7 - 0 + 1) true 0 (by omega) rfl (Nat.lt_succ_self _) _ _ hP hS ls (lv_sub hl [2, 3, 4, 1, 0] rfl)
set_option maxHeartbeats 4000000 in
set_option maxRecDepth 100000 in
/-- witness(set) -/
theorem mX1_witness (l : Launch) (dC : Nat → ClassId) (dI : Nat → Nat → Nat) (ad : Nat → Nat) (cA : Nat → ClassId) (P : Nat) (y n : Nat → Nat) (f : Nat → Int32) (x : Nat) (hn : ∀ k, n k < 16) : PI l yX1_witness cX1_witness 3 (some .int) ({ frames := 2, cells := 0, slots := 0, locals := 47 } : Room) [.ref (ad 0), .int (nI x)] (dC, dI) (wM ad cA P y n f) (tM cA) (oI (fndN (aB y n (x &&& P)) 16)) := by
  refine PI.of (by decide) (Nat.le_of_ble_eq_true rfl) ?_
  intro p e s m below meth c hx hb hr hlocks hml hown hts hK H locs hP hS ls hl
  have hown : s.vm.findClass "CoreFinderModel" = some m.cls := hown
  have hl : lv_has ls 3 [(0, .ref (ad 0)), (1, .int (nI x))] := hl
  refine lv_iconst (v := (nI 0)) hx hb dX1_witness_0 (by decide) ?_
  refine lv_istore_n (lv' := [(2, .int (nI 0)), (0, .ref (ad 0)), (1, .int (nI x))]) hx hb dX1_witness_1 rfl hl (by decide) rfl (fun ls hl => ?_)
  have loop_2 : ∀ (n_ : Nat) (v : Nat), (v ≤ 16) → (∀ t, t < v → aB y n (x &&& P) t = false) → 16 - v < n_ → ∀ (H : Heap) (locs : List Loc), va_P (dC, dI) vwCl (wM ad cA P y n f) H → va_S (fun _ => False) s.heap H locs → ∀ (ls : Array Slot), lv_has ls 3 [(0, .ref (ad 0)), (1, .int (nI x)), (2, .int (nI v))] → W p l e ({ frames := 2, cells := 0, slots := 0, locals := 47 } : Room) s m ([.ref (ad 0), .int (nI x)] : List Value).toArray below meth c H locs 0 0 (QP below (oI (fndN (aB y n (x &&& P)) 16)) ([.ref (ad 0), .int (nI x)] : List Value).toArray s) (F0 m 2 ls []) := by
    intro n_
    induction n_ with
    | zero =>
      intro v hv hno hlt
      exact absurd hlt (Nat.not_lt_zero _)
    | succ n_ ih_2 =>
      intro v hv hno hlt_2 H locs hP hS ls hl
      refine lv_iload_n hx hb dX1_witness_2 rfl (lv_at hl 2 rfl) ?_
      refine lv_bipush (v := (nI 16)) hx hb dX1_witness_3 (by decide) ?_
      refine nv_cgeN hx hb 25 (by first | omega | exact nd_lt (by omega) | exact Nat.lt_of_le_of_lt Nat.and_le_left (by omega) | exact Nat.lt_of_le_of_lt Nat.and_le_right (by omega)) (by first | omega | exact nd_lt (by omega) | exact Nat.lt_of_le_of_lt Nat.and_le_left (by omega) | exact Nat.lt_of_le_of_lt Nat.and_le_right (by omega)) dX1_witness_5 (by decide) (fun c_5 => ?_) (fun c_5 => ?_)
      · skip
        refine lv_iconst (v := (-1)) hx hb dX1_witness_25 (by decide) ?_
        exact pi_ret hx hb hr hlocks hS (by rw [fndN_none.mpr (fun t ht => hno t (by omega))]; rfl) dX1_witness_26
      · skip
        refine lv_aload_n hx hb dX1_witness_8 rfl (lv_at hl 0 rfl) ?_
        refine lv_iload_n hx hb dX1_witness_9 rfl (lv_at hl 1 rfl) ?_
        refine lv_iload_n hx hb dX1_witness_10 rfl (lv_at hl 2 rfl) ?_
        refine pi_callV (ws0 := (wM ad cA P y n f)) (rest := []) ⟨hx, hb, hml, hown, hts⟩ [.int (nI x), .int (nI v)] (mX1_allHold l dC dI ad cA P y n f x v hn c_5) (lw_V q207 q209 qs12 q20 q210) hdX1_allHold ⟨Nat.le_of_ble_eq_true rfl, Nat.le_of_ble_eq_true rfl⟩ ⟨rfl, rfl⟩ hK hP (q0 := 0) (ci := 1) rfl rfl rfl hl.1 rfl (Nat.le_of_ble_eq_true rfl) dX1_witness_11 ⟨Nat.zero_le _, Nat.zero_le _⟩ hP hS (fun H locs hP hS => ?_)
        refine nv_eqB hx hb 19 dX1_witness_14 (by decide) (fun c_14 => ?_) (fun c_14 => ?_)
        · skip
          refine lv_iinc (v := (nI (v + 1))) (lv' := [(2, .int (nI (v + 1))), (0, .ref (ad 0)), (1, .int (nI x))]) hx hb dX1_witness_19 hl (k := 2) rfl (nI_1 v) (by decide) rfl (fun ls hl => ?_)
          refine lv_goto (tgt := 2) hx hb dX1_witness_22 (by decide) ?_
          exact ih_2 (v + 1) (by omega) (lt_step hno c_14) (by omega) _ _ hP hS ls (lv_sub hl [1, 2, 0] rfl)
        · skip
          refine lv_iload_n hx hb dX1_witness_17 rfl (lv_at hl 2 rfl) ?_
          exact pi_ret hx hb hr hlocks hS (by rw [fndN_some.mpr ⟨c_5, c_14, hno⟩]; rfl) dX1_witness_18
  exact loop_2 (16 - 0 + 1) 0 (by omega) (fun t h => absurd h (Nat.not_lt_zero t)) (Nat.lt_succ_self _) _ _ hP hS ls (lv_sub hl [1, 2, 0] rfl)
set_option maxHeartbeats 4000000 in
set_option maxRecDepth 100000 in
/-- consistent(set) -/
theorem mX1_consistent (l : Launch) (dC : Nat → ClassId) (dI : Nat → Nat → Nat) (ad : Nat → Nat) (cA : Nat → ClassId) (P : Nat) (y n : Nat → Nat) (f : Nat → Int32) (x : Nat) (hn : ∀ k, n k < 16) : PI l yX1_consistent cX1_consistent 2 (some .boolean) ({ frames := 3, cells := 0, slots := 0, locals := 69 } : Room) [.ref (ad 0), .int (nI x)] (dC, dI) (wM ad cA P y n f) (tM cA) (bI (cB y n (x &&& P))) := by
  refine PI.of (by decide) (Nat.le_of_ble_eq_true rfl) ?_
  intro p e s m below meth c hx hb hr hlocks hml hown hts hK H locs hP hS ls hl
  have hown : s.vm.findClass "CoreFinderModel" = some m.cls := hown
  have hl : lv_has ls 2 [(0, .ref (ad 0)), (1, .int (nI x))] := hl
  refine lv_aload_n hx hb dX1_consistent_0 rfl (lv_at hl 0 rfl) ?_
  refine lv_iload_n hx hb dX1_consistent_1 rfl (lv_at hl 1 rfl) ?_
  refine pi_callV (ws0 := (wM ad cA P y n f)) (rest := []) ⟨hx, hb, hml, hown, hts⟩ [.int (nI x)] (mX1_witness l dC dI ad cA P y n f x hn) (lw_V q203 q204 q205 q20 q206) hdX1_witness ⟨Nat.le_of_ble_eq_true rfl, Nat.le_of_ble_eq_true rfl⟩ ⟨rfl, rfl⟩ hK hP (q0 := 0) (ci := 1) rfl rfl rfl hl.1 rfl (Nat.le_of_ble_eq_true rfl) dX1_consistent_2 ⟨Nat.zero_le _, Nat.zero_le _⟩ hP hS (fun H locs hP hS => ?_)
  refine nv_ltO hx hb 12 (fun k hk => Nat.lt_trans (fndN_lt hk) (by decide)) dX1_consistent_5 (by decide) (fun c_5 => ?_) (fun k_5 c_5 => ?_)
  · skip
    refine lv_iconst (v := (nI 0)) hx hb dX1_consistent_12 (by decide) ?_
    exact pi_retz hx hb hr hlocks hS (Or.inl rfl) (by rw [cB, c_5]; rfl) dX1_consistent_13
  · skip
    refine lv_iconst (v := (nI 1)) hx hb dX1_consistent_8 (by decide) ?_
    refine lv_goto (tgt := 13) hx hb dX1_consistent_9 (by decide) ?_
    exact pi_retz hx hb hr hlocks hS (Or.inr rfl) (by rw [cB, c_5]; rfl) dX1_consistent_13
set_option maxHeartbeats 4000000 in
set_option maxRecDepth 100000 in
/-- work() -/
theorem mX1_work (l : Launch) (dC : Nat → ClassId) (dI : Nat → Nat → Nat) (ad : Nat → Nat) (cA : Nat → ClassId) (P : Nat) (y n : Nat → Nat) (f : Nat → Int32) (hn : ∀ k, n k < 16) (sz : Nat) : MV l yX1_work cX1_work 2 ({ frames := 4, cells := 0, slots := 0, locals := 90 } : Room) [.ref (ad 0)] (dC, dI) (wM ad cA P y n f) (tM cA) sz (FineP y n P) (fun u : Nat → Int32 => wM ad cA P y n u) := by
  refine MV.of (by decide) (Nat.le_of_ble_eq_true rfl) ?_
  intro p e s m below meth c hx hb hr hlocks hml hown hts hK A hA H locs hP hD hS ls hl
  have hown : s.vm.findClass "CoreFinderModel" = some m.cls := hown
  have hl : lv_has ls 2 [(0, .ref (ad 0))] := hl
  refine lv_iconst (v := (nI 0)) hx hb dX1_work_0 (by decide) ?_
  refine lv_istore_n (lv' := [(1, .int (nI 0)), (0, .ref (ad 0))]) hx hb dX1_work_1 rfl hl (by decide) rfl (fun ls hl => ?_)
  have loop_2 : ∀ (n_ : Nat) (k : Nat) (f1 : Nat → Int32), (k ≤ 128) → (∀ t, t < k → f1 t = bI (cB y n (t &&& P))) → 128 - k < n_ → ∀ (H : Heap) (locs : List Loc), va_P (dC, dI) vwCl (wM ad cA P y n f1) H → va_D A (wM ad cA P y n f1) → va_S A s.heap H locs → ∀ (ls : Array Slot), lv_has ls 2 [(0, .ref (ad 0)), (1, .int (nI k))] → W p l e ({ frames := 4, cells := 0, slots := 0, locals := 90 } : Room) s m ([.ref (ad 0)] : List Value).toArray below meth c H locs 0 0 (QV below A (dC, dI) (FineP y n P) (fun u : Nat → Int32 => wM ad cA P y n u) ([.ref (ad 0)] : List Value).toArray s) (F0 m 2 ls []) := by
    intro n_
    induction n_ with
    | zero =>
      intro k f1 hk hf1 hlt
      exact absurd hlt (Nat.not_lt_zero _)
    | succ n_ ih_2 =>
      intro k f1 hk hf1 hlt_2 H locs hP hD hS ls hl
      refine lv_iload_n hx hb dX1_work_2 rfl (lv_at hl 1 rfl) ?_
      refine lv_sipush (v := (nI 128)) hx hb dX1_work_3 (by decide) ?_
      refine nv_cgeN hx hb 26 (by first | omega | exact nd_lt (by omega) | exact Nat.lt_of_le_of_lt Nat.and_le_left (by omega) | exact Nat.lt_of_le_of_lt Nat.and_le_right (by omega)) (by first | omega | exact nd_lt (by omega) | exact Nat.lt_of_le_of_lt Nat.and_le_left (by omega) | exact Nat.lt_of_le_of_lt Nat.and_le_right (by omega)) dX1_work_6 (by decide) (fun c_6 => ?_) (fun c_6 => ?_)
      · skip
        exact mv_ret hx hb hr hlocks hS f1 hP hD (fun t ht => hf1 t (by omega)) dX1_work_26
      · skip
        refine lv_aload_n hx hb dX1_work_9 rfl (lv_at hl 0 rfl) ?_
        refine va_get (D := (dC, dI)) (ci := 1) (v := .ref (ad 4)) (C := RX1) (T := TX1) (N := 4) hx hb hts in_X1 hown hK hP 0 rfl rfl 3 (by decide) (hts _ q171) (fun _ h9 => h9) rfl dX1_work_10 ?_
        refine lv_iload_n hx hb dX1_work_13 rfl (lv_at hl 1 rfl) ?_
        refine lv_aload_n hx hb dX1_work_14 rfl (lv_at hl 0 rfl) ?_
        refine lv_iload_n hx hb dX1_work_15 rfl (lv_at hl 1 rfl) ?_
        refine pi_callV (ws0 := (wM ad cA P y n f1)) (rest := [.int (nI k), .ref (ad 4)]) ⟨hx, hb, hml, hown, hts⟩ [.int (nI k)] (mX1_consistent l dC dI ad cA P y n f1 k hn) (lw_V q224 q200 q201 q20 q202) hdX1_consistent ⟨Nat.le_of_ble_eq_true rfl, Nat.le_of_ble_eq_true rfl⟩ ⟨rfl, rfl⟩ hK hP (q0 := 0) (ci := 1) rfl rfl rfl hl.1 rfl (Nat.le_of_ble_eq_true rfl) dX1_work_16 ⟨Nat.zero_le _, Nat.zero_le _⟩ hP hS (fun H locs hP hS => ?_)
        refine nv_zast hx hb hK hP hD hS 4 3 rfl rfl (upd f1 k (bI (cB y n (k &&& P)))) (by first | omega | exact nd_lt (by omega) | exact Nat.lt_of_le_of_lt Nat.and_le_left (by omega) | exact Nat.lt_of_le_of_lt Nat.and_le_right (by omega)) (by decide) (by rw [nar_b]) dX1_work_19 (fun H locs hP hD hS => ?_)
        have hP : va_P (dC, dI) vwCl (wM ad cA P y n (upd f1 k (bI (cB y n (k &&& P))))) H := hP
        have hD : va_D A (wM ad cA P y n (upd f1 k (bI (cB y n (k &&& P))))) := hD
        refine lv_iinc (v := (nI (k + 1))) (lv' := [(1, .int (nI (k + 1))), (0, .ref (ad 0))]) hx hb dX1_work_20 hl (k := 1) rfl (nI_1 k) (by decide) rfl (fun ls hl => ?_)
        refine lv_goto (tgt := 2) hx hb dX1_work_23 (by decide) ?_
        exact ih_2 (k + 1) (upd f1 k (bI (cB y n (k &&& P)))) (by omega) (lt_step (fun t ht => by rw [pk_un (by omega)]; exact hf1 t ht) pk_us) (by omega) _ _ hP hD hS ls (lv_sub hl [1, 0] rfl)
  exact loop_2 (128 - 0 + 1) 0 f (by omega) (fun t h => absurd h (Nat.not_lt_zero t)) (Nat.lt_succ_self _) _ _ hP hD hS ls (lv_sub hl [1, 0] rfl)
end
section
set_option maxRecDepth 100000
set_option maxHeartbeats 4000000 in
set_option maxRecDepth 100000 in
/-- isCore(set) -/
theorem mX1_isCore (l : Launch) (dC : Nat → ClassId) (dI : Nat → Nat → Nat) (ad : Nat → Nat) (cA : Nat → ClassId) (P : Nat) (y n : Nat → Nat) (f : Nat → Int32) (S : Nat) (hp7 : P < 128) (hf : FineP y n P f) (hS7 : S < 128) : PI l yX1_isCore cX1_isCore 4 (some .boolean) ({ frames := 1, cells := 0, slots := 0, locals := 22 } : Room) [.ref (ad 0), .int (nI S)] (dC, dI) (wM ad cA P y n f) (tM cA) (bI (coreB y n P S)) := by
  refine PI.of (by decide) (Nat.le_of_ble_eq_true rfl) ?_
  intro p e s m below meth c hx hb hr hlocks hml hown hts hK H locs hP hS ls hl
  have hown : s.vm.findClass "CoreFinderModel" = some m.cls := hown
  have hl : lv_has ls 4 [(0, .ref (ad 0)), (1, .int (nI S))] := hl
  refine lv_iload_n hx hb dX1_isCore_0 rfl (lv_at hl 1 rfl) ?_
  refine lv_aload_n hx hb dX1_isCore_1 rfl (lv_at hl 0 rfl) ?_
  refine pi_callV (ws0 := (wM ad cA P y n f)) (rest := [.int (nI S)]) ⟨hx, hb, hml, hown, hts⟩ [] (mX1_clauses l dC dI ad cA P y n f hp7) (lw_V q229 q196 q197 q20 q198) hdX1_clauses ⟨Nat.le_of_ble_eq_true rfl, Nat.le_of_ble_eq_true rfl⟩ ⟨rfl, rfl⟩ hK hP (q0 := 0) (ci := 1) rfl rfl rfl hl.1 rfl (Nat.le_of_ble_eq_true rfl) dX1_isCore_2 ⟨Nat.zero_le _, Nat.zero_le _⟩ hP hS (fun H locs hP hS => ?_)
  refine lv_iconst (v := (-1)) hx hb dX1_isCore_5 (by decide) ?_
  refine lv_ixor hx hb dX1_isCore_6 ?_
  refine nv_andn hx hb dX1_isCore_7 ?_
  have join_26 : ∀ (b0 : Bool), (b0 = ((nd S P == 0) && !cB y n S)) → ∀ (H : Heap) (locs : List Loc), va_P (dC, dI) vwCl (wM ad cA P y n f) H → va_S (fun _ => False) s.heap H locs → ∀ (ls : Array Slot), lv_has ls 4 [(0, .ref (ad 0)), (1, .int (nI S)), (2, .int (bI b0))] → W p l e ({ frames := 1, cells := 0, slots := 0, locals := 22 } : Room) s m ([.ref (ad 0), .int (nI S)] : List Value).toArray below meth c H locs 0 0 (QP below (bI (coreB y n P S)) ([.ref (ad 0), .int (nI S)] : List Value).toArray s) (F0 m 26 ls []) := by
    intro b0 hb0 H locs hP hS ls hl
    refine lv_iconst (v := (nI 0)) hx hb dX1_isCore_26 (by decide) ?_
    refine lv_istore_n (lv' := [(3, .int (nI 0)), (0, .ref (ad 0)), (1, .int (nI S)), (2, .int (bI b0))]) hx hb dX1_isCore_27 rfl hl (by decide) rfl (fun ls hl => ?_)
    have loop_28 : ∀ (n_ : Nat) (b : Bool) (k : Nat), (k ≤ 7) → (b = (b0 && allN (fun k => !S.testBit k || cB y n (nd S (2 ^ k))) k)) → 7 - k < n_ → ∀ (H : Heap) (locs : List Loc), va_P (dC, dI) vwCl (wM ad cA P y n f) H → va_S (fun _ => False) s.heap H locs → ∀ (ls : Array Slot), lv_has ls 4 [(0, .ref (ad 0)), (1, .int (nI S)), (2, .int (bI b)), (3, .int (nI k))] → W p l e ({ frames := 1, cells := 0, slots := 0, locals := 22 } : Room) s m ([.ref (ad 0), .int (nI S)] : List Value).toArray below meth c H locs 0 0 (QP below (bI (coreB y n P S)) ([.ref (ad 0), .int (nI S)] : List Value).toArray s) (F0 m 28 ls []) := by
      intro n_
      induction n_ with
      | zero =>
        intro b k hk hb1 hlt
        exact absurd hlt (Nat.not_lt_zero _)
      | succ n_ ih_28 =>
        intro b k hk hb1 hlt_28 H locs hP hS ls hl
        refine lv_iload_n hx hb dX1_isCore_28 rfl (lv_at hl 3 rfl) ?_
        refine lv_bipush (v := (nI 7)) hx hb dX1_isCore_29 (by decide) ?_
        refine nv_cgeN hx hb 73 (by first | omega | exact nd_lt (by omega) | exact Nat.lt_of_le_of_lt Nat.and_le_left (by omega) | exact Nat.lt_of_le_of_lt Nat.and_le_right (by omega)) (by first | omega | exact nd_lt (by omega) | exact Nat.lt_of_le_of_lt Nat.and_le_left (by omega) | exact Nat.lt_of_le_of_lt Nat.and_le_right (by omega)) dX1_isCore_31 (by decide) (fun c_31 => ?_) (fun c_31 => ?_)
        · skip
          refine lv_iload_n hx hb dX1_isCore_73 rfl (lv_at hl 2 rfl) ?_
          exact pi_retz hx hb hr hlocks hS (bI_01 _) (by rw [hb1, hb0, show k = 7 by omega]; rfl) dX1_isCore_74
        · skip
          refine lv_iload_n hx hb dX1_isCore_34 rfl (lv_at hl 2 rfl) ?_
          refine nv_eqB hx hb 65 dX1_isCore_35 (by decide) (fun c_35 => ?_) (fun c_35 => ?_)
          · skip
            refine lv_iconst (v := (nI 0)) hx hb dX1_isCore_65 (by decide) ?_
            refine lv_istore_n (lv' := [(2, .int (nI 0)), (0, .ref (ad 0)), (1, .int (nI S)), (3, .int (nI k))]) hx hb dX1_isCore_66 rfl hl (by decide) rfl (fun ls hl => ?_)
            refine lv_iinc (v := (nI (k + 1))) (lv' := [(3, .int (nI (k + 1))), (2, .int (nI 0)), (0, .ref (ad 0)), (1, .int (nI S))]) hx hb dX1_isCore_67 hl (k := 3) rfl (nI_1 k) (by decide) rfl (fun ls hl => ?_)
            refine lv_goto (tgt := 28) hx hb dX1_isCore_70 (by decide) ?_
            exact ih_28 false (k + 1) (by omega) (all_f hb1 c_35) (by omega) _ _ hP hS ls (lv_sub hl [2, 3, 1, 0] rfl)
          · skip
            have hs0 := core_sub hb0 hb1 c_35
            refine lv_iload_n hx hb dX1_isCore_38 rfl (lv_at hl 1 rfl) ?_
            refine lv_iload_n hx hb dX1_isCore_39 rfl (lv_at hl 3 rfl) ?_
            refine lv_ishr hx hb dX1_isCore_40 ?_
            refine lv_iconst (v := (nI 1)) hx hb dX1_isCore_41 (by decide) ?_
            refine nv_bit hx hb (by first | omega | exact nd_lt (by omega) | exact Nat.lt_of_le_of_lt Nat.and_le_left (by omega) | exact Nat.lt_of_le_of_lt Nat.and_le_right (by omega)) dX1_isCore_42 ?_
            refine nv_eqB hx hb 61 dX1_isCore_43 (by decide) (fun c_43 => ?_) (fun c_43 => ?_)
            · skip
              refine lv_iconst (v := (nI 1)) hx hb dX1_isCore_61 (by decide) ?_
              refine lv_goto (tgt := 66) hx hb dX1_isCore_62 (by decide) ?_
              refine lv_istore_n (lv' := [(2, .int (nI 1)), (0, .ref (ad 0)), (1, .int (nI S)), (3, .int (nI k))]) hx hb dX1_isCore_66 rfl hl (by decide) rfl (fun ls hl => ?_)
              refine lv_iinc (v := (nI (k + 1))) (lv' := [(3, .int (nI (k + 1))), (2, .int (nI 1)), (0, .ref (ad 0)), (1, .int (nI S))]) hx hb dX1_isCore_67 hl (k := 3) rfl (nI_1 k) (by decide) rfl (fun ls hl => ?_)
              refine lv_goto (tgt := 28) hx hb dX1_isCore_70 (by decide) ?_
              exact ih_28 true (k + 1) (by omega) (all_t hb1 c_35 (by simp [c_43])) (by omega) _ _ hP hS ls (lv_sub hl [2, 3, 1, 0] rfl)
            · skip
              refine lv_aload_n hx hb dX1_isCore_46 rfl (lv_at hl 0 rfl) ?_
              refine va_get (D := (dC, dI)) (ci := 1) (v := .ref (ad 4)) (C := RX1) (T := TX1) (N := 4) hx hb hts in_X1 hown hK hP 0 rfl rfl 3 (by decide) (hts _ q171) (fun _ h9 => h9) rfl dX1_isCore_47 ?_
              refine lv_iload_n hx hb dX1_isCore_50 rfl (lv_at hl 1 rfl) ?_
              refine lv_iconst (v := (nI 1)) hx hb dX1_isCore_51 (by decide) ?_
              refine lv_iload_n hx hb dX1_isCore_52 rfl (lv_at hl 3 rfl) ?_
              refine nv_shl1 hx hb (by first | omega | exact nd_lt (by omega) | exact Nat.lt_of_le_of_lt Nat.and_le_left (by omega) | exact Nat.lt_of_le_of_lt Nat.and_le_right (by omega)) dX1_isCore_53 ?_
              refine lv_iconst (v := (-1)) hx hb dX1_isCore_54 (by decide) ?_
              refine lv_ixor hx hb dX1_isCore_55 ?_
              refine nv_andn hx hb dX1_isCore_56 ?_
              refine nv_zald hx hb hK hP 4 3 rfl rfl (by first | omega | exact nd_lt (by omega) | exact Nat.lt_of_le_of_lt Nat.and_le_left (by omega) | exact Nat.lt_of_le_of_lt Nat.and_le_right (by omega)) (by decide) dX1_isCore_57 ?_
              refine nv_e (y := (bI (cB y n (nd S (2 ^ k))))) (by rw [hf _ (nd_lt hS7), and_sub (nd_trans (nd_sub S _) hs0)]) ?_
              refine nv_eqB hx hb 65 dX1_isCore_58 (by decide) (fun c_58 => ?_) (fun c_58 => ?_)
              · skip
                refine lv_iconst (v := (nI 0)) hx hb dX1_isCore_65 (by decide) ?_
                refine lv_istore_n (lv' := [(2, .int (nI 0)), (0, .ref (ad 0)), (1, .int (nI S)), (3, .int (nI k))]) hx hb dX1_isCore_66 rfl hl (by decide) rfl (fun ls hl => ?_)
                refine lv_iinc (v := (nI (k + 1))) (lv' := [(3, .int (nI (k + 1))), (2, .int (nI 0)), (0, .ref (ad 0)), (1, .int (nI S))]) hx hb dX1_isCore_67 hl (k := 3) rfl (nI_1 k) (by decide) rfl (fun ls hl => ?_)
                refine lv_goto (tgt := 28) hx hb dX1_isCore_70 (by decide) ?_
                exact ih_28 false (k + 1) (by omega) (all_g (by simp [c_43, c_58])) (by omega) _ _ hP hS ls (lv_sub hl [2, 3, 1, 0] rfl)
              · skip
                refine lv_iconst (v := (nI 1)) hx hb dX1_isCore_61 (by decide) ?_
                refine lv_goto (tgt := 66) hx hb dX1_isCore_62 (by decide) ?_
                refine lv_istore_n (lv' := [(2, .int (nI 1)), (0, .ref (ad 0)), (1, .int (nI S)), (3, .int (nI k))]) hx hb dX1_isCore_66 rfl hl (by decide) rfl (fun ls hl => ?_)
                refine lv_iinc (v := (nI (k + 1))) (lv' := [(3, .int (nI (k + 1))), (2, .int (nI 1)), (0, .ref (ad 0)), (1, .int (nI S))]) hx hb dX1_isCore_67 hl (k := 3) rfl (nI_1 k) (by decide) rfl (fun ls hl => ?_)
                refine lv_goto (tgt := 28) hx hb dX1_isCore_70 (by decide) ?_
                exact ih_28 true (k + 1) (by omega) (all_t hb1 c_35 (by simp [c_58])) (by omega) _ _ hP hS ls (lv_sub hl [2, 3, 1, 0] rfl)
    exact loop_28 (7 - 0 + 1) b0 0 (by omega) (by simp [allN]) (Nat.lt_succ_self _) _ _ hP hS ls (lv_sub hl [1, 2, 3, 0] rfl)
  refine nv_neN hx hb 24 (by first | omega | exact nd_lt (by omega) | exact Nat.lt_of_le_of_lt Nat.and_le_left (by omega) | exact Nat.lt_of_le_of_lt Nat.and_le_right (by omega)) dX1_isCore_8 (by decide) (fun c_8 => ?_) (fun c_8 => ?_)
  · skip
    refine lv_iconst (v := (nI 0)) hx hb dX1_isCore_24 (by decide) ?_
    refine lv_istore_n (lv' := [(2, .int (nI 0)), (0, .ref (ad 0)), (1, .int (nI S))]) hx hb dX1_isCore_25 rfl hl (by decide) rfl (fun ls hl => ?_)
    exact join_26 false (by simp [c_8]) _ _ hP hS ls (lv_sub hl [1, 2, 0] rfl)
  · skip
    refine lv_aload_n hx hb dX1_isCore_11 rfl (lv_at hl 0 rfl) ?_
    refine va_get (D := (dC, dI)) (ci := 1) (v := .ref (ad 4)) (C := RX1) (T := TX1) (N := 4) hx hb hts in_X1 hown hK hP 0 rfl rfl 3 (by decide) (hts _ q171) (fun _ h9 => h9) rfl dX1_isCore_12 ?_
    refine lv_iload_n hx hb dX1_isCore_15 rfl (lv_at hl 1 rfl) ?_
    refine nv_zald hx hb hK hP 4 3 rfl rfl (by first | omega | exact nd_lt (by omega) | exact Nat.lt_of_le_of_lt Nat.and_le_left (by omega) | exact Nat.lt_of_le_of_lt Nat.and_le_right (by omega)) (by decide) dX1_isCore_16 ?_
    refine nv_e (y := (bI (cB y n S))) (by rw [hf S hS7, and_sub c_8]) ?_
    refine nv_neB hx hb 24 dX1_isCore_17 (by decide) (fun c_17 => ?_) (fun c_17 => ?_)
    · skip
      refine lv_iconst (v := (nI 0)) hx hb dX1_isCore_24 (by decide) ?_
      refine lv_istore_n (lv' := [(2, .int (nI 0)), (0, .ref (ad 0)), (1, .int (nI S))]) hx hb dX1_isCore_25 rfl hl (by decide) rfl (fun ls hl => ?_)
      exact join_26 false (by simp [c_17]) _ _ hP hS ls (lv_sub hl [1, 2, 0] rfl)
    · skip
      refine lv_iconst (v := (nI 1)) hx hb dX1_isCore_20 (by decide) ?_
      refine lv_goto (tgt := 25) hx hb dX1_isCore_21 (by decide) ?_
      refine lv_istore_n (lv' := [(2, .int (nI 1)), (0, .ref (ad 0)), (1, .int (nI S))]) hx hb dX1_isCore_25 rfl hl (by decide) rfl (fun ls hl => ?_)
      exact join_26 true (by simp [c_8, c_17]) _ _ hP hS ls (lv_sub hl [1, 2, 0] rfl)
set_option maxHeartbeats 4000000 in
set_option maxRecDepth 100000 in
/-- isRepair(set) -/
theorem mX1_isRepair (l : Launch) (dC : Nat → ClassId) (dI : Nat → Nat → Nat) (ad : Nat → Nat) (cA : Nat → ClassId) (P : Nat) (y n : Nat → Nat) (f : Nat → Int32) (S : Nat) (hp7 : P < 128) (hf : FineP y n P f) (hS7 : S < 128) : PI l yX1_isRepair cX1_isRepair 5 (some .boolean) ({ frames := 1, cells := 0, slots := 0, locals := 22 } : Room) [.ref (ad 0), .int (nI S)] (dC, dI) (wM ad cA P y n f) (tM cA) (bI (repB y n P S)) := by
  refine PI.of (by decide) (Nat.le_of_ble_eq_true rfl) ?_
  intro p e s m below meth c hx hb hr hlocks hml hown hts hK H locs hP hS ls hl
  have hown : s.vm.findClass "CoreFinderModel" = some m.cls := hown
  have hl : lv_has ls 5 [(0, .ref (ad 0)), (1, .int (nI S))] := hl
  refine lv_aload_n hx hb dX1_isRepair_0 rfl (lv_at hl 0 rfl) ?_
  refine pi_callV (ws0 := (wM ad cA P y n f)) (rest := []) ⟨hx, hb, hml, hown, hts⟩ [] (mX1_clauses l dC dI ad cA P y n f hp7) (lw_V q229 q196 q197 q20 q198) hdX1_clauses ⟨Nat.le_of_ble_eq_true rfl, Nat.le_of_ble_eq_true rfl⟩ ⟨rfl, rfl⟩ hK hP (q0 := 0) (ci := 1) rfl rfl rfl hl.1 rfl (Nat.le_of_ble_eq_true rfl) dX1_isRepair_1 ⟨Nat.zero_le _, Nat.zero_le _⟩ hP hS (fun H locs hP hS => ?_)
  refine lv_istore_n (lv' := [(2, .int (nI P)), (0, .ref (ad 0)), (1, .int (nI S))]) hx hb dX1_isRepair_4 rfl hl (by decide) rfl (fun ls hl => ?_)
  refine lv_iload_n hx hb dX1_isRepair_5 rfl (lv_at hl 2 rfl) ?_
  refine lv_iload_n hx hb dX1_isRepair_6 rfl (lv_at hl 0 rfl) ?_
  refine lv_iconst (v := (-1)) hx hb dX1_isRepair_7 (by decide) ?_
  refine lv_ixor hx hb dX1_isRepair_8 ?_
  refine nv_andn hx hb dX1_isRepair_9 ?_
  have join_32 : ∀ (b0 : Bool), (b0 = ((nd S P == 0) && cB y n (nd P S))) → ∀ (H : Heap) (locs : List Loc), va_P (dC, dI) vwCl (wM ad cA P y n f) H → va_S (fun _ => False) s.heap H locs → ∀ (ls : Array Slot), lv_has ls 5 [(0, .ref (ad 0)), (1, .int (nI S)), (2, .int (nI P)), (3, .int (bI b0))] → W p l e ({ frames := 1, cells := 0, slots := 0, locals := 22 } : Room) s m ([.ref (ad 0), .int (nI S)] : List Value).toArray below meth c H locs 0 0 (QP below (bI (repB y n P S)) ([.ref (ad 0), .int (nI S)] : List Value).toArray s) (F0 m 32 ls []) := by
    intro b0 hb0 H locs hP hS ls hl
    refine lv_iconst (v := (nI 0)) hx hb dX1_isRepair_32 (by decide) ?_
    refine lv_istore (lv' := [(4, .int (nI 0)), (0, .ref (ad 0)), (1, .int (nI S)), (2, .int (nI P)), (3, .int (bI b0))]) hx hb dX1_isRepair_33 hl (by decide) rfl (fun ls hl => ?_)
    have loop_35 : ∀ (n_ : Nat) (b : Bool) (k : Nat), (k ≤ S) → (b = (b0 && allN (fun t => (nd t S != 0) || !cB y n (nd P t)) k)) → S - k < n_ → ∀ (H : Heap) (locs : List Loc), va_P (dC, dI) vwCl (wM ad cA P y n f) H → va_S (fun _ => False) s.heap H locs → ∀ (ls : Array Slot), lv_has ls 5 [(0, .ref (ad 0)), (1, .int (nI S)), (2, .int (nI P)), (3, .int (bI b)), (4, .int (nI k))] → W p l e ({ frames := 1, cells := 0, slots := 0, locals := 22 } : Room) s m ([.ref (ad 0), .int (nI S)] : List Value).toArray below meth c H locs 0 0 (QP below (bI (repB y n P S)) ([.ref (ad 0), .int (nI S)] : List Value).toArray s) (F0 m 35 ls []) := by
      intro n_
      induction n_ with
      | zero =>
        intro b k hk hb1 hlt
        exact absurd hlt (Nat.not_lt_zero _)
      | succ n_ ih_35 =>
        intro b k hk hb1 hlt_35 H locs hP hS ls hl
        refine lv_iload hx hb dX1_isRepair_35 (lv_at hl 4 rfl) ?_
        refine lv_iload_n hx hb dX1_isRepair_37 rfl (lv_at hl 1 rfl) ?_
        refine nv_cgeN hx hb 80 (by first | omega | exact nd_lt (by omega) | exact Nat.lt_of_le_of_lt Nat.and_le_left (by omega) | exact Nat.lt_of_le_of_lt Nat.and_le_right (by omega)) (by first | omega | exact nd_lt (by omega) | exact Nat.lt_of_le_of_lt Nat.and_le_left (by omega) | exact Nat.lt_of_le_of_lt Nat.and_le_right (by omega)) dX1_isRepair_38 (by decide) (fun c_38 => ?_) (fun c_38 => ?_)
        · skip
          refine lv_iload_n hx hb dX1_isRepair_80 rfl (lv_at hl 3 rfl) ?_
          exact pi_retz hx hb hr hlocks hS (bI_01 _) (by rw [hb1, hb0, show k = S by omega]; rfl) dX1_isRepair_81
        · skip
          refine lv_iload_n hx hb dX1_isRepair_41 rfl (lv_at hl 3 rfl) ?_
          refine nv_eqB hx hb 72 dX1_isRepair_42 (by decide) (fun c_42 => ?_) (fun c_42 => ?_)
          · skip
            refine lv_iconst (v := (nI 0)) hx hb dX1_isRepair_72 (by decide) ?_
            refine lv_istore_n (lv' := [(3, .int (nI 0)), (0, .ref (ad 0)), (1, .int (nI S)), (2, .int (nI P)), (4, .int (nI k))]) hx hb dX1_isRepair_73 rfl hl (by decide) rfl (fun ls hl => ?_)
            refine lv_iinc (v := (nI (k + 1))) (lv' := [(4, .int (nI (k + 1))), (3, .int (nI 0)), (0, .ref (ad 0)), (1, .int (nI S)), (2, .int (nI P))]) hx hb dX1_isRepair_74 hl (k := 4) rfl (nI_1 k) (by decide) rfl (fun ls hl => ?_)
            refine lv_goto (tgt := 35) hx hb dX1_isRepair_77 (by decide) ?_
            exact ih_35 false (k + 1) (by omega) (all_f hb1 c_42) (by omega) _ _ hP hS ls (lv_sub hl [2, 3, 4, 1, 0] rfl)
          · skip
            refine lv_iload hx hb dX1_isRepair_45 (lv_at hl 4 rfl) ?_
            refine lv_iload_n hx hb dX1_isRepair_47 rfl (lv_at hl 1 rfl) ?_
            refine lv_iconst (v := (-1)) hx hb dX1_isRepair_48 (by decide) ?_
            refine lv_ixor hx hb dX1_isRepair_49 ?_
            refine nv_andn hx hb dX1_isRepair_50 ?_
            refine nv_neN hx hb 68 (by first | omega | exact nd_lt (by omega) | exact Nat.lt_of_le_of_lt Nat.and_le_left (by omega) | exact Nat.lt_of_le_of_lt Nat.and_le_right (by omega)) dX1_isRepair_51 (by decide) (fun c_51 => ?_) (fun c_51 => ?_)
            · skip
              refine lv_iconst (v := (nI 1)) hx hb dX1_isRepair_68 (by decide) ?_
              refine lv_goto (tgt := 73) hx hb dX1_isRepair_69 (by decide) ?_
              refine lv_istore_n (lv' := [(3, .int (nI 1)), (0, .ref (ad 0)), (1, .int (nI S)), (2, .int (nI P)), (4, .int (nI k))]) hx hb dX1_isRepair_73 rfl hl (by decide) rfl (fun ls hl => ?_)
              refine lv_iinc (v := (nI (k + 1))) (lv' := [(4, .int (nI (k + 1))), (3, .int (nI 1)), (0, .ref (ad 0)), (1, .int (nI S)), (2, .int (nI P))]) hx hb dX1_isRepair_74 hl (k := 4) rfl (nI_1 k) (by decide) rfl (fun ls hl => ?_)
              refine lv_goto (tgt := 35) hx hb dX1_isRepair_77 (by decide) ?_
              exact ih_35 true (k + 1) (by omega) (all_t hb1 c_42 (by simp [c_51])) (by omega) _ _ hP hS ls (lv_sub hl [2, 3, 4, 1, 0] rfl)
            · skip
              refine lv_aload_n hx hb dX1_isRepair_54 rfl (lv_at hl 0 rfl) ?_
              refine va_get (D := (dC, dI)) (ci := 1) (v := .ref (ad 4)) (C := RX1) (T := TX1) (N := 4) hx hb hts in_X1 hown hK hP 0 rfl rfl 3 (by decide) (hts _ q171) (fun _ h9 => h9) rfl dX1_isRepair_55 ?_
              refine lv_iload_n hx hb dX1_isRepair_58 rfl (lv_at hl 2 rfl) ?_
              refine lv_iload hx hb dX1_isRepair_59 (lv_at hl 4 rfl) ?_
              refine lv_iconst (v := (-1)) hx hb dX1_isRepair_61 (by decide) ?_
              refine lv_ixor hx hb dX1_isRepair_62 ?_
              refine nv_andn hx hb dX1_isRepair_63 ?_
              refine nv_zald hx hb hK hP 4 3 rfl rfl (by first | omega | exact nd_lt (by omega) | exact Nat.lt_of_le_of_lt Nat.and_le_left (by omega) | exact Nat.lt_of_le_of_lt Nat.and_le_right (by omega)) (by decide) dX1_isRepair_64 ?_
              refine nv_e (y := (bI (cB y n (nd P k)))) (by rw [hf _ (nd_lt hp7), and_sub (nd_sub P _)]) ?_
              refine nv_neB hx hb 72 dX1_isRepair_65 (by decide) (fun c_65 => ?_) (fun c_65 => ?_)
              · skip
                refine lv_iconst (v := (nI 0)) hx hb dX1_isRepair_72 (by decide) ?_
                refine lv_istore_n (lv' := [(3, .int (nI 0)), (0, .ref (ad 0)), (1, .int (nI S)), (2, .int (nI P)), (4, .int (nI k))]) hx hb dX1_isRepair_73 rfl hl (by decide) rfl (fun ls hl => ?_)
                refine lv_iinc (v := (nI (k + 1))) (lv' := [(4, .int (nI (k + 1))), (3, .int (nI 0)), (0, .ref (ad 0)), (1, .int (nI S)), (2, .int (nI P))]) hx hb dX1_isRepair_74 hl (k := 4) rfl (nI_1 k) (by decide) rfl (fun ls hl => ?_)
                refine lv_goto (tgt := 35) hx hb dX1_isRepair_77 (by decide) ?_
                exact ih_35 false (k + 1) (by omega) (all_g (by simp [c_51, c_65])) (by omega) _ _ hP hS ls (lv_sub hl [2, 3, 4, 1, 0] rfl)
              · skip
                refine lv_iconst (v := (nI 1)) hx hb dX1_isRepair_68 (by decide) ?_
                refine lv_goto (tgt := 73) hx hb dX1_isRepair_69 (by decide) ?_
                refine lv_istore_n (lv' := [(3, .int (nI 1)), (0, .ref (ad 0)), (1, .int (nI S)), (2, .int (nI P)), (4, .int (nI k))]) hx hb dX1_isRepair_73 rfl hl (by decide) rfl (fun ls hl => ?_)
                refine lv_iinc (v := (nI (k + 1))) (lv' := [(4, .int (nI (k + 1))), (3, .int (nI 1)), (0, .ref (ad 0)), (1, .int (nI S)), (2, .int (nI P))]) hx hb dX1_isRepair_74 hl (k := 4) rfl (nI_1 k) (by decide) rfl (fun ls hl => ?_)
                refine lv_goto (tgt := 35) hx hb dX1_isRepair_77 (by decide) ?_
                exact ih_35 true (k + 1) (by omega) (all_t hb1 c_42 (by simp [c_65])) (by omega) _ _ hP hS ls (lv_sub hl [2, 3, 4, 1, 0] rfl)
    exact loop_35 (S - 0 + 1) b0 0 (by omega) (by simp [allN]) (Nat.lt_succ_self _) _ _ hP hS ls (lv_sub hl [1, 2, 3, 4, 0] rfl)
  refine nv_neN hx hb 30 (by first | omega | exact nd_lt (by omega) | exact Nat.lt_of_le_of_lt Nat.and_le_left (by omega) | exact Nat.lt_of_le_of_lt Nat.and_le_right (by omega)) dX1_isRepair_10 (by decide) (fun c_10 => ?_) (fun c_10 => ?_)
  · skip
    refine lv_iconst (v := (nI 0)) hx hb dX1_isRepair_30 (by decide) ?_
    refine lv_istore_n (lv' := [(3, .int (nI 0)), (2, .int (nI P)), (0, .ref (ad 0)), (1, .int (nI S))]) hx hb dX1_isRepair_31 rfl hl (by decide) rfl (fun ls hl => ?_)
    exact join_32 false (by simp [c_10]) _ _ hP hS ls (lv_sub hl [2, 3, 1, 0] rfl)
  · skip
    refine lv_aload_n hx hb dX1_isRepair_13 rfl (lv_at hl 1 rfl) ?_
    refine va_get (D := (dC, dI)) (ci := 1) (v := .ref (ad 4)) (C := RX1) (T := TX1) (N := 4) hx hb hts in_X1 hown hK hP 0 rfl rfl 3 (by decide) (hts _ q171) (fun _ h9 => h9) rfl dX1_isRepair_14 ?_
    refine lv_iload_n hx hb dX1_isRepair_17 rfl (lv_at hl 0 rfl) ?_
    refine lv_iload_n hx hb dX1_isRepair_18 rfl (lv_at hl 2 rfl) ?_
    refine lv_iconst (v := (-1)) hx hb dX1_isRepair_19 (by decide) ?_
    refine lv_ixor hx hb dX1_isRepair_20 ?_
    refine nv_andn hx hb dX1_isRepair_21 ?_
    refine nv_zald hx hb hK hP 4 3 rfl rfl (by first | omega | exact nd_lt (by omega) | exact Nat.lt_of_le_of_lt Nat.and_le_left (by omega) | exact Nat.lt_of_le_of_lt Nat.and_le_right (by omega)) (by decide) dX1_isRepair_22 ?_
    refine nv_e (y := (bI (cB y n (nd P S)))) (by rw [hf _ (nd_lt hp7), and_sub (nd_sub P _)]) ?_
    refine nv_eqB hx hb 30 dX1_isRepair_23 (by decide) (fun c_23 => ?_) (fun c_23 => ?_)
    · skip
      refine lv_iconst (v := (nI 0)) hx hb dX1_isRepair_30 (by decide) ?_
      refine lv_istore_n (lv' := [(3, .int (nI 0)), (2, .int (nI P)), (0, .ref (ad 0)), (1, .int (nI S))]) hx hb dX1_isRepair_31 rfl hl (by decide) rfl (fun ls hl => ?_)
      exact join_32 false (by simp [c_23]) _ _ hP hS ls (lv_sub hl [2, 3, 1, 0] rfl)
    · skip
      refine lv_iconst (v := (nI 1)) hx hb dX1_isRepair_26 (by decide) ?_
      refine lv_goto (tgt := 31) hx hb dX1_isRepair_27 (by decide) ?_
      refine lv_istore_n (lv' := [(3, .int (nI 1)), (2, .int (nI P)), (0, .ref (ad 0)), (1, .int (nI S))]) hx hb dX1_isRepair_31 rfl hl (by decide) rfl (fun ls hl => ?_)
      exact join_32 true (by simp [c_10, c_23]) _ _ hP hS ls (lv_sub hl [2, 3, 1, 0] rfl)
set_option maxHeartbeats 4000000 in
set_option maxRecDepth 100000 in
/-- ones(set) -/
theorem mX1_ones (l : Launch) (dC : Nat → ClassId) (dI : Nat → Nat → Nat) (ad : Nat → Nat) (cA : Nat → ClassId) (P : Nat) (y n : Nat → Nat) (f : Nat → Int32) (S : Nat)  : PI l yX1_ones cX1_ones 4 (some .int) ({ frames := 0, cells := 0, slots := 0, locals := 0 } : Room) [.ref (ad 0), .int (nI S)] (dC, dI) (wM ad cA P y n f) (tM cA) (nI (on7 S 7)) := by
  refine PI.of (by decide) (Nat.le_of_ble_eq_true rfl) ?_
  intro p e s m below meth c hx hb hr hlocks hml hown hts hK H locs hP hS ls hl
  have hown : s.vm.findClass "CoreFinderModel" = some m.cls := hown
  have hl : lv_has ls 4 [(0, .ref (ad 0)), (1, .int (nI S))] := hl
  refine lv_iconst (v := (nI 0)) hx hb dX1_ones_0 (by decide) ?_
  refine lv_istore_n (lv' := [(2, .int (nI 0)), (0, .ref (ad 0)), (1, .int (nI S))]) hx hb dX1_ones_1 rfl hl (by decide) rfl (fun ls hl => ?_)
  refine lv_iconst (v := (nI 0)) hx hb dX1_ones_2 (by decide) ?_
  refine lv_istore_n (lv' := [(3, .int (nI 0)), (2, .int (nI 0)), (0, .ref (ad 0)), (1, .int (nI S))]) hx hb dX1_ones_3 rfl hl (by decide) rfl (fun ls hl => ?_)
  have loop_4 : ∀ (n_ : Nat) (k : Nat), (k ≤ 7) → 7 - k < n_ → ∀ (H : Heap) (locs : List Loc), va_P (dC, dI) vwCl (wM ad cA P y n f) H → va_S (fun _ => False) s.heap H locs → ∀ (ls : Array Slot), lv_has ls 4 [(0, .ref (ad 0)), (1, .int (nI S)), (2, .int (nI (on7 S k))), (3, .int (nI k))] → W p l e ({ frames := 0, cells := 0, slots := 0, locals := 0 } : Room) s m ([.ref (ad 0), .int (nI S)] : List Value).toArray below meth c H locs 0 0 (QP below (nI (on7 S 7)) ([.ref (ad 0), .int (nI S)] : List Value).toArray s) (F0 m 4 ls []) := by
    intro n_
    induction n_ with
    | zero =>
      intro k hk hlt
      exact absurd hlt (Nat.not_lt_zero _)
    | succ n_ ih_4 =>
      intro k hk hlt_4 H locs hP hS ls hl
      refine lv_iload_n hx hb dX1_ones_4 rfl (lv_at hl 3 rfl) ?_
      refine lv_bipush (v := (nI 7)) hx hb dX1_ones_5 (by decide) ?_
      refine nv_cgeN hx hb 24 (by first | omega | exact nd_lt (by omega) | exact Nat.lt_of_le_of_lt Nat.and_le_left (by omega) | exact Nat.lt_of_le_of_lt Nat.and_le_right (by omega)) (by first | omega | exact nd_lt (by omega) | exact Nat.lt_of_le_of_lt Nat.and_le_left (by omega) | exact Nat.lt_of_le_of_lt Nat.and_le_right (by omega)) dX1_ones_7 (by decide) (fun c_7 => ?_) (fun c_7 => ?_)
      · skip
        refine lv_iload_n hx hb dX1_ones_24 rfl (lv_at hl 2 rfl) ?_
        exact pi_ret hx hb hr hlocks hS (by rw [show k = 7 by omega]) dX1_ones_25
      · skip
        refine lv_iload_n hx hb dX1_ones_10 rfl (lv_at hl 2 rfl) ?_
        refine lv_iload_n hx hb dX1_ones_11 rfl (lv_at hl 1 rfl) ?_
        refine lv_iload_n hx hb dX1_ones_12 rfl (lv_at hl 3 rfl) ?_
        refine lv_ishr hx hb dX1_ones_13 ?_
        refine lv_iconst (v := (nI 1)) hx hb dX1_ones_14 (by decide) ?_
        refine nv_bit hx hb (by first | omega | exact nd_lt (by omega) | exact Nat.lt_of_le_of_lt Nat.and_le_left (by omega) | exact Nat.lt_of_le_of_lt Nat.and_le_right (by omega)) dX1_ones_15 ?_
        refine nv_addB hx hb dX1_ones_16 ?_
        refine lv_istore_n (lv' := [(2, .int (nI ((on7 S k) + (S.testBit k).toNat))), (0, .ref (ad 0)), (1, .int (nI S)), (3, .int (nI k))]) hx hb dX1_ones_17 rfl hl (by decide) rfl (fun ls hl => ?_)
        refine lv_iinc (v := (nI (k + 1))) (lv' := [(3, .int (nI (k + 1))), (2, .int (nI ((on7 S k) + (S.testBit k).toNat))), (0, .ref (ad 0)), (1, .int (nI S))]) hx hb dX1_ones_18 hl (k := 3) rfl (nI_1 k) (by decide) rfl (fun ls hl => ?_)
        refine lv_goto (tgt := 4) hx hb dX1_ones_21 (by decide) ?_
        exact ih_4 (k + 1) (by omega) (by omega) _ _ hP hS ls (lv_sub hl [2, 3, 1, 0] rfl)
  exact loop_4 (7 - 0 + 1) 0 (by omega) (Nat.lt_succ_self _) _ _ hP hS ls (lv_sub hl [2, 3, 1, 0] rfl)
set_option maxHeartbeats 4000000 in
set_option maxRecDepth 100000 in
/-- cores() -/
theorem mX1_cores (l : Launch) (dC : Nat → ClassId) (dI : Nat → Nat → Nat) (ad : Nat → Nat) (cA : Nat → ClassId) (P : Nat) (y n : Nat → Nat) (f : Nat → Int32) (hp7 : P < 128) (hn : ∀ k, n k < 16) (sz : Nat) : MI l yX1_cores cX1_cores 3 (some .int) ({ frames := 5, cells := 0, slots := 0, locals := 111 } : Room) [.ref (ad 0)] (dC, dI) (wM ad cA P y n f) (tM cA) sz (nI (cntN (coreB y n P) 128)) (fun _ : Nat → Int32 => True) (fun u : Nat → Int32 => wM ad cA P y n u) := by
  refine MI.of (by decide) (Nat.le_of_ble_eq_true rfl) ?_
  intro p e s m below meth c hx hb hr hlocks hml hown hts hK A hA H locs hP hD hS ls hl
  have hown : s.vm.findClass "CoreFinderModel" = some m.cls := hown
  have hl : lv_has ls 3 [(0, .ref (ad 0))] := hl
  refine lv_aload_n hx hb dX1_cores_0 rfl (lv_at hl 0 rfl) ?_
  refine mv_callV (ws0 := (wM ad cA P y n f)) (wr := []) (rest := []) ⟨hx, hb, hml, hown, hts⟩ [] (fun sz => (mX1_work l dC dI ad cA P y n f hn sz)) (lw_V q220 q222 qs14 q20 q223) hdX1_work ⟨Nat.le_of_ble_eq_true rfl, Nat.le_of_ble_eq_true rfl⟩ ⟨rfl, rfl⟩ hK [0, 1, 2, 3, 4] [] rfl rfl rfl rfl (fun _ h => absurd h List.not_mem_nil) rfl (q0 := 0) (ci := 1) rfl rfl rfl hl.1 rfl (Nat.le_of_ble_eq_true rfl) dX1_cores_1 ⟨Nat.zero_le _, Nat.zero_le _⟩ hA hP hD hS (fun u_1 H locs hu_1 hP hD hS => ?_)
  have hf : FineP y n P u_1 := hu_1
  have hP : va_P (dC, dI) vwCl (wM ad cA P y n u_1) H := hP
  have hD : va_D A (wM ad cA P y n u_1) := hD
  refine lv_iconst (v := (nI 0)) hx hb dX1_cores_4 (by decide) ?_
  refine lv_istore_n (lv' := [(1, .int (nI 0)), (0, .ref (ad 0))]) hx hb dX1_cores_5 rfl hl (by decide) rfl (fun ls hl => ?_)
  refine lv_iconst (v := (nI 0)) hx hb dX1_cores_6 (by decide) ?_
  refine lv_istore_n (lv' := [(2, .int (nI 0)), (1, .int (nI 0)), (0, .ref (ad 0))]) hx hb dX1_cores_7 rfl hl (by decide) rfl (fun ls hl => ?_)
  have loop_8 : ∀ (n_ : Nat) (q : Nat) (k : Nat), (k ≤ 128) → (q = cntN (coreB y n P) k) → 128 - k < n_ → ∀ (H : Heap) (locs : List Loc), va_P (dC, dI) vwCl (wM ad cA P y n u_1) H → va_D A (wM ad cA P y n u_1) → va_S A s.heap H locs → ∀ (ls : Array Slot), lv_has ls 3 [(0, .ref (ad 0)), (1, .int (nI q)), (2, .int (nI k))] → W p l e ({ frames := 5, cells := 0, slots := 0, locals := 111 } : Room) s m ([.ref (ad 0)] : List Value).toArray below meth c H locs 0 0 (QI below A (dC, dI) (nI (cntN (coreB y n P) 128)) (fun _ : Nat → Int32 => True) (fun u : Nat → Int32 => wM ad cA P y n u) ([.ref (ad 0)] : List Value).toArray s) (F0 m 8 ls []) := by
    intro n_
    induction n_ with
    | zero =>
      intro q k hk hq hlt
      exact absurd hlt (Nat.not_lt_zero _)
    | succ n_ ih_8 =>
      intro q k hk hq hlt_8 H locs hP hD hS ls hl
      refine lv_iload_n hx hb dX1_cores_8 rfl (lv_at hl 2 rfl) ?_
      refine lv_sipush (v := (nI 128)) hx hb dX1_cores_9 (by decide) ?_
      refine nv_cgeN hx hb 37 (by first | omega | exact nd_lt (by omega) | exact Nat.lt_of_le_of_lt Nat.and_le_left (by omega) | exact Nat.lt_of_le_of_lt Nat.and_le_right (by omega)) (by first | omega | exact nd_lt (by omega) | exact Nat.lt_of_le_of_lt Nat.and_le_left (by omega) | exact Nat.lt_of_le_of_lt Nat.and_le_right (by omega)) dX1_cores_12 (by decide) (fun c_12 => ?_) (fun c_12 => ?_)
      · skip
        refine lv_iload_n hx hb dX1_cores_37 rfl (lv_at hl 1 rfl) ?_
        exact mi_ret hx hb hr hlocks hS u_1 hP hD trivial (by rw [hq, show k = 128 by omega]) dX1_cores_38
      · skip
        refine lv_aload_n hx hb dX1_cores_15 rfl (lv_at hl 0 rfl) ?_
        refine lv_iload_n hx hb dX1_cores_16 rfl (lv_at hl 2 rfl) ?_
        refine pi_callV (ws0 := (wM ad cA P y n u_1)) (rest := []) ⟨hx, hb, hml, hown, hts⟩ [.int (nI k)] (mX1_isCore l dC dI ad cA P y n u_1 k hp7 hf (by omega)) (lw_V q225 q227 qs15 q20 q228) hdX1_isCore ⟨Nat.le_of_ble_eq_true rfl, Nat.le_of_ble_eq_true rfl⟩ ⟨rfl, rfl⟩ hK hP (q0 := 0) (ci := 1) rfl rfl rfl hl.1 rfl (Nat.le_of_ble_eq_true rfl) dX1_cores_17 ⟨Nat.zero_le _, Nat.zero_le _⟩ hP hS (fun H locs hP hS => ?_)
        refine nv_eqB hx hb 29 dX1_cores_20 (by decide) (fun c_20 => ?_) (fun c_20 => ?_)
        · skip
          refine lv_iload_n hx hb dX1_cores_29 rfl (lv_at hl 1 rfl) ?_
          refine lv_istore_n (lv' := [(1, .int (nI q)), (0, .ref (ad 0)), (2, .int (nI k))]) hx hb dX1_cores_30 rfl hl (by decide) rfl (fun ls hl => ?_)
          refine lv_iinc (v := (nI (k + 1))) (lv' := [(2, .int (nI (k + 1))), (1, .int (nI q)), (0, .ref (ad 0))]) hx hb dX1_cores_31 hl (k := 2) rfl (nI_1 k) (by decide) rfl (fun ls hl => ?_)
          refine lv_goto (tgt := 8) hx hb dX1_cores_34 (by decide) ?_
          exact ih_8 q (k + 1) (by omega) (hq.trans (cnt_f' c_20)) (by omega) _ _ hP hD hS ls (lv_sub hl [2, 1, 0] rfl)
        · skip
          refine lv_iload_n hx hb dX1_cores_23 rfl (lv_at hl 1 rfl) ?_
          refine lv_iconst (v := (nI 1)) hx hb dX1_cores_24 (by decide) ?_
          refine nv_add hx hb dX1_cores_25 ?_
          refine lv_goto (tgt := 30) hx hb dX1_cores_26 (by decide) ?_
          refine lv_istore_n (lv' := [(1, .int (nI (q + 1))), (0, .ref (ad 0)), (2, .int (nI k))]) hx hb dX1_cores_30 rfl hl (by decide) rfl (fun ls hl => ?_)
          refine lv_iinc (v := (nI (k + 1))) (lv' := [(2, .int (nI (k + 1))), (1, .int (nI (q + 1))), (0, .ref (ad 0))]) hx hb dX1_cores_31 hl (k := 2) rfl (nI_1 k) (by decide) rfl (fun ls hl => ?_)
          refine lv_goto (tgt := 8) hx hb dX1_cores_34 (by decide) ?_
          exact ih_8 (q + 1) (k + 1) (by omega) (by rw [hq, cnt_t c_20]) (by omega) _ _ hP hD hS ls (lv_sub hl [2, 1, 0] rfl)
  exact loop_8 (128 - 0 + 1) 0 0 (by omega) rfl (Nat.lt_succ_self _) _ _ hP hD hS ls (lv_sub hl [2, 1, 0] rfl)
set_option maxHeartbeats 4000000 in
set_option maxRecDepth 100000 in
/-- repairs() -/
theorem mX1_repairs (l : Launch) (dC : Nat → ClassId) (dI : Nat → Nat → Nat) (ad : Nat → Nat) (cA : Nat → ClassId) (P : Nat) (y n : Nat → Nat) (f : Nat → Int32) (hp7 : P < 128) (hn : ∀ k, n k < 16) (sz : Nat) : MI l yX1_repairs cX1_repairs 3 (some .int) ({ frames := 5, cells := 0, slots := 0, locals := 111 } : Room) [.ref (ad 0)] (dC, dI) (wM ad cA P y n f) (tM cA) sz (nI (cntN (repB y n P) 128)) (fun _ : Nat → Int32 => True) (fun u : Nat → Int32 => wM ad cA P y n u) := by
  refine MI.of (by decide) (Nat.le_of_ble_eq_true rfl) ?_
  intro p e s m below meth c hx hb hr hlocks hml hown hts hK A hA H locs hP hD hS ls hl
  have hown : s.vm.findClass "CoreFinderModel" = some m.cls := hown
  have hl : lv_has ls 3 [(0, .ref (ad 0))] := hl
  refine lv_aload_n hx hb dX1_repairs_0 rfl (lv_at hl 0 rfl) ?_
  refine mv_callV (ws0 := (wM ad cA P y n f)) (wr := []) (rest := []) ⟨hx, hb, hml, hown, hts⟩ [] (fun sz => (mX1_work l dC dI ad cA P y n f hn sz)) (lw_V q220 q222 qs14 q20 q223) hdX1_work ⟨Nat.le_of_ble_eq_true rfl, Nat.le_of_ble_eq_true rfl⟩ ⟨rfl, rfl⟩ hK [0, 1, 2, 3, 4] [] rfl rfl rfl rfl (fun _ h => absurd h List.not_mem_nil) rfl (q0 := 0) (ci := 1) rfl rfl rfl hl.1 rfl (Nat.le_of_ble_eq_true rfl) dX1_repairs_1 ⟨Nat.zero_le _, Nat.zero_le _⟩ hA hP hD hS (fun u_1 H locs hu_1 hP hD hS => ?_)
  have hf : FineP y n P u_1 := hu_1
  have hP : va_P (dC, dI) vwCl (wM ad cA P y n u_1) H := hP
  have hD : va_D A (wM ad cA P y n u_1) := hD
  refine lv_iconst (v := (nI 0)) hx hb dX1_repairs_4 (by decide) ?_
  refine lv_istore_n (lv' := [(1, .int (nI 0)), (0, .ref (ad 0))]) hx hb dX1_repairs_5 rfl hl (by decide) rfl (fun ls hl => ?_)
  refine lv_iconst (v := (nI 0)) hx hb dX1_repairs_6 (by decide) ?_
  refine lv_istore_n (lv' := [(2, .int (nI 0)), (1, .int (nI 0)), (0, .ref (ad 0))]) hx hb dX1_repairs_7 rfl hl (by decide) rfl (fun ls hl => ?_)
  have loop_8 : ∀ (n_ : Nat) (q : Nat) (k : Nat), (k ≤ 128) → (q = cntN (repB y n P) k) → 128 - k < n_ → ∀ (H : Heap) (locs : List Loc), va_P (dC, dI) vwCl (wM ad cA P y n u_1) H → va_D A (wM ad cA P y n u_1) → va_S A s.heap H locs → ∀ (ls : Array Slot), lv_has ls 3 [(0, .ref (ad 0)), (1, .int (nI q)), (2, .int (nI k))] → W p l e ({ frames := 5, cells := 0, slots := 0, locals := 111 } : Room) s m ([.ref (ad 0)] : List Value).toArray below meth c H locs 0 0 (QI below A (dC, dI) (nI (cntN (repB y n P) 128)) (fun _ : Nat → Int32 => True) (fun u : Nat → Int32 => wM ad cA P y n u) ([.ref (ad 0)] : List Value).toArray s) (F0 m 8 ls []) := by
    intro n_
    induction n_ with
    | zero =>
      intro q k hk hq hlt
      exact absurd hlt (Nat.not_lt_zero _)
    | succ n_ ih_8 =>
      intro q k hk hq hlt_8 H locs hP hD hS ls hl
      refine lv_iload_n hx hb dX1_repairs_8 rfl (lv_at hl 2 rfl) ?_
      refine lv_sipush (v := (nI 128)) hx hb dX1_repairs_9 (by decide) ?_
      refine nv_cgeN hx hb 37 (by first | omega | exact nd_lt (by omega) | exact Nat.lt_of_le_of_lt Nat.and_le_left (by omega) | exact Nat.lt_of_le_of_lt Nat.and_le_right (by omega)) (by first | omega | exact nd_lt (by omega) | exact Nat.lt_of_le_of_lt Nat.and_le_left (by omega) | exact Nat.lt_of_le_of_lt Nat.and_le_right (by omega)) dX1_repairs_12 (by decide) (fun c_12 => ?_) (fun c_12 => ?_)
      · skip
        refine lv_iload_n hx hb dX1_repairs_37 rfl (lv_at hl 1 rfl) ?_
        exact mi_ret hx hb hr hlocks hS u_1 hP hD trivial (by rw [hq, show k = 128 by omega]) dX1_repairs_38
      · skip
        refine lv_aload_n hx hb dX1_repairs_15 rfl (lv_at hl 0 rfl) ?_
        refine lv_iload_n hx hb dX1_repairs_16 rfl (lv_at hl 2 rfl) ?_
        refine pi_callV (ws0 := (wM ad cA P y n u_1)) (rest := []) ⟨hx, hb, hml, hown, hts⟩ [.int (nI k)] (mX1_isRepair l dC dI ad cA P y n u_1 k hp7 hf (by omega)) (lw_V q238 q240 qs16 q20 q241) hdX1_isRepair ⟨Nat.le_of_ble_eq_true rfl, Nat.le_of_ble_eq_true rfl⟩ ⟨rfl, rfl⟩ hK hP (q0 := 0) (ci := 1) rfl rfl rfl hl.1 rfl (Nat.le_of_ble_eq_true rfl) dX1_repairs_17 ⟨Nat.zero_le _, Nat.zero_le _⟩ hP hS (fun H locs hP hS => ?_)
        refine nv_eqB hx hb 29 dX1_repairs_20 (by decide) (fun c_20 => ?_) (fun c_20 => ?_)
        · skip
          refine lv_iload_n hx hb dX1_repairs_29 rfl (lv_at hl 1 rfl) ?_
          refine lv_istore_n (lv' := [(1, .int (nI q)), (0, .ref (ad 0)), (2, .int (nI k))]) hx hb dX1_repairs_30 rfl hl (by decide) rfl (fun ls hl => ?_)
          refine lv_iinc (v := (nI (k + 1))) (lv' := [(2, .int (nI (k + 1))), (1, .int (nI q)), (0, .ref (ad 0))]) hx hb dX1_repairs_31 hl (k := 2) rfl (nI_1 k) (by decide) rfl (fun ls hl => ?_)
          refine lv_goto (tgt := 8) hx hb dX1_repairs_34 (by decide) ?_
          exact ih_8 q (k + 1) (by omega) (hq.trans (cnt_f' c_20)) (by omega) _ _ hP hD hS ls (lv_sub hl [2, 1, 0] rfl)
        · skip
          refine lv_iload_n hx hb dX1_repairs_23 rfl (lv_at hl 1 rfl) ?_
          refine lv_iconst (v := (nI 1)) hx hb dX1_repairs_24 (by decide) ?_
          refine nv_add hx hb dX1_repairs_25 ?_
          refine lv_goto (tgt := 30) hx hb dX1_repairs_26 (by decide) ?_
          refine lv_istore_n (lv' := [(1, .int (nI (q + 1))), (0, .ref (ad 0)), (2, .int (nI k))]) hx hb dX1_repairs_30 rfl hl (by decide) rfl (fun ls hl => ?_)
          refine lv_iinc (v := (nI (k + 1))) (lv' := [(2, .int (nI (k + 1))), (1, .int (nI (q + 1))), (0, .ref (ad 0))]) hx hb dX1_repairs_31 hl (k := 2) rfl (nI_1 k) (by decide) rfl (fun ls hl => ?_)
          refine lv_goto (tgt := 8) hx hb dX1_repairs_34 (by decide) ?_
          exact ih_8 (q + 1) (k + 1) (by omega) (by rw [hq, cnt_t c_20]) (by omega) _ _ hP hD hS ls (lv_sub hl [2, 1, 0] rfl)
  exact loop_8 (128 - 0 + 1) 0 0 (by omega) rfl (Nat.lt_succ_self _) _ _ hP hD hS ls (lv_sub hl [2, 1, 0] rfl)
set_option maxHeartbeats 4000000 in
set_option maxRecDepth 100000 in
/-- core(k) -/
theorem mX1_core (l : Launch) (dC : Nat → ClassId) (dI : Nat → Nat → Nat) (ad : Nat → Nat) (cA : Nat → ClassId) (P : Nat) (y n : Nat → Nat) (f : Nat → Int32) (x : Nat) (hp7 : P < 128) (hn : ∀ k, n k < 16) (hx32 : x < 2 ^ 32) (sz : Nat) : MI l yX1_core cX1_core 4 (some .int) ({ frames := 5, cells := 0, slots := 0, locals := 111 } : Room) [.ref (ad 0), .int (nI x)] (dC, dI) (wM ad cA P y n f) (tM cA) sz (oI (fndN (nthB (coreB y n P) x) 128)) (fun _ : Nat → Int32 => True) (fun u : Nat → Int32 => wM ad cA P y n u) := by
  refine MI.of (by decide) (Nat.le_of_ble_eq_true rfl) ?_
  intro p e s m below meth c hx hb hr hlocks hml hown hts hK A hA H locs hP hD hS ls hl
  have hown : s.vm.findClass "CoreFinderModel" = some m.cls := hown
  have hl : lv_has ls 4 [(0, .ref (ad 0)), (1, .int (nI x))] := hl
  refine lv_aload_n hx hb dX1_core_0 rfl (lv_at hl 0 rfl) ?_
  refine mv_callV (ws0 := (wM ad cA P y n f)) (wr := []) (rest := []) ⟨hx, hb, hml, hown, hts⟩ [] (fun sz => (mX1_work l dC dI ad cA P y n f hn sz)) (lw_V q220 q222 qs14 q20 q223) hdX1_work ⟨Nat.le_of_ble_eq_true rfl, Nat.le_of_ble_eq_true rfl⟩ ⟨rfl, rfl⟩ hK [0, 1, 2, 3, 4] [] rfl rfl rfl rfl (fun _ h => absurd h List.not_mem_nil) rfl (q0 := 0) (ci := 1) rfl rfl rfl hl.1 rfl (Nat.le_of_ble_eq_true rfl) dX1_core_1 ⟨Nat.zero_le _, Nat.zero_le _⟩ hA hP hD hS (fun u_1 H locs hu_1 hP hD hS => ?_)
  have hf : FineP y n P u_1 := hu_1
  have hP : va_P (dC, dI) vwCl (wM ad cA P y n u_1) H := hP
  have hD : va_D A (wM ad cA P y n u_1) := hD
  refine lv_iconst (v := (nI 0)) hx hb dX1_core_4 (by decide) ?_
  refine lv_istore_n (lv' := [(2, .int (nI 0)), (0, .ref (ad 0)), (1, .int (nI x))]) hx hb dX1_core_5 rfl hl (by decide) rfl (fun ls hl => ?_)
  refine lv_iconst (v := (nI 0)) hx hb dX1_core_6 (by decide) ?_
  refine lv_istore_n (lv' := [(3, .int (nI 0)), (2, .int (nI 0)), (0, .ref (ad 0)), (1, .int (nI x))]) hx hb dX1_core_7 rfl hl (by decide) rfl (fun ls hl => ?_)
  have loop_8 : ∀ (n_ : Nat) (q : Nat) (k : Nat), (k ≤ 128) → (q = cntN (coreB y n P) k) → (∀ t, t < k → nthB (coreB y n P) x t = false) → 128 - k < n_ → ∀ (H : Heap) (locs : List Loc), va_P (dC, dI) vwCl (wM ad cA P y n u_1) H → va_D A (wM ad cA P y n u_1) → va_S A s.heap H locs → ∀ (ls : Array Slot), lv_has ls 4 [(0, .ref (ad 0)), (1, .int (nI x)), (2, .int (nI q)), (3, .int (nI k))] → W p l e ({ frames := 5, cells := 0, slots := 0, locals := 111 } : Room) s m ([.ref (ad 0), .int (nI x)] : List Value).toArray below meth c H locs 0 0 (QI below A (dC, dI) (oI (fndN (nthB (coreB y n P) x) 128)) (fun _ : Nat → Int32 => True) (fun u : Nat → Int32 => wM ad cA P y n u) ([.ref (ad 0), .int (nI x)] : List Value).toArray s) (F0 m 8 ls []) := by
    intro n_
    induction n_ with
    | zero =>
      intro q k hk hq hno hlt
      exact absurd hlt (Nat.not_lt_zero _)
    | succ n_ ih_8 =>
      intro q k hk hq hno hlt_8 H locs hP hD hS ls hl
      refine lv_iload_n hx hb dX1_core_8 rfl (lv_at hl 3 rfl) ?_
      refine lv_sipush (v := (nI 128)) hx hb dX1_core_9 (by decide) ?_
      refine nv_cgeN hx hb 39 (by first | omega | exact nd_lt (by omega) | exact Nat.lt_of_le_of_lt Nat.and_le_left (by omega) | exact Nat.lt_of_le_of_lt Nat.and_le_right (by omega)) (by first | omega | exact nd_lt (by omega) | exact Nat.lt_of_le_of_lt Nat.and_le_left (by omega) | exact Nat.lt_of_le_of_lt Nat.and_le_right (by omega)) dX1_core_12 (by decide) (fun c_12 => ?_) (fun c_12 => ?_)
      · skip
        refine lv_iconst (v := (-1)) hx hb dX1_core_39 (by decide) ?_
        exact mi_ret hx hb hr hlocks hS u_1 hP hD trivial (by rw [nth_miss c_12 hno]; rfl) dX1_core_40
      · skip
        refine lv_aload_n hx hb dX1_core_15 rfl (lv_at hl 0 rfl) ?_
        refine lv_iload_n hx hb dX1_core_16 rfl (lv_at hl 3 rfl) ?_
        refine pi_callV (ws0 := (wM ad cA P y n u_1)) (rest := []) ⟨hx, hb, hml, hown, hts⟩ [.int (nI k)] (mX1_isCore l dC dI ad cA P y n u_1 k hp7 hf (by omega)) (lw_V q225 q227 qs15 q20 q228) hdX1_isCore ⟨Nat.le_of_ble_eq_true rfl, Nat.le_of_ble_eq_true rfl⟩ ⟨rfl, rfl⟩ hK hP (q0 := 0) (ci := 1) rfl rfl rfl hl.1 rfl (Nat.le_of_ble_eq_true rfl) dX1_core_17 ⟨Nat.zero_le _, Nat.zero_le _⟩ hP hS (fun H locs hP hS => ?_)
        refine nv_eqB hx hb 33 dX1_core_20 (by decide) (fun c_20 => ?_) (fun c_20 => ?_)
        · skip
          refine lv_iinc (v := (nI (k + 1))) (lv' := [(3, .int (nI (k + 1))), (0, .ref (ad 0)), (1, .int (nI x)), (2, .int (nI q))]) hx hb dX1_core_33 hl (k := 3) rfl (nI_1 k) (by decide) rfl (fun ls hl => ?_)
          refine lv_goto (tgt := 8) hx hb dX1_core_36 (by decide) ?_
          exact ih_8 q (k + 1) (by omega) (hq.trans (cnt_f' c_20)) (lt_step hno (by simp [nthB, c_20])) (by omega) _ _ hP hD hS ls (lv_sub hl [1, 2, 3, 0] rfl)
        · skip
          refine lv_iload_n hx hb dX1_core_23 rfl (lv_at hl 2 rfl) ?_
          refine lv_iload_n hx hb dX1_core_24 rfl (lv_at hl 1 rfl) ?_
          refine nv_cneN hx hb 30 (by rw [hq]; exact Nat.lt_of_le_of_lt (cntN_le _ _) (by omega)) hx32 dX1_core_25 (by decide) (fun c_25 => ?_) (fun c_25 => ?_)
          · skip
            refine lv_iinc (v := (nI (q + 1))) (lv' := [(2, .int (nI (q + 1))), (0, .ref (ad 0)), (1, .int (nI x)), (3, .int (nI k))]) hx hb dX1_core_30 hl (k := 2) rfl (nI_1 q) (by decide) rfl (fun ls hl => ?_)
            refine lv_iinc (v := (nI (k + 1))) (lv' := [(3, .int (nI (k + 1))), (2, .int (nI (q + 1))), (0, .ref (ad 0)), (1, .int (nI x))]) hx hb dX1_core_33 hl (k := 3) rfl (nI_1 k) (by decide) rfl (fun ls hl => ?_)
            refine lv_goto (tgt := 8) hx hb dX1_core_36 (by decide) ?_
            exact ih_8 (q + 1) (k + 1) (by omega) (by rw [hq, cnt_t c_20]) (lt_step hno (by simp [nthB, c_20, ← hq, c_25])) (by omega) _ _ hP hD hS ls (lv_sub hl [2, 3, 1, 0] rfl)
          · skip
            refine lv_iload_n hx hb dX1_core_28 rfl (lv_at hl 3 rfl) ?_
            exact mi_ret hx hb hr hlocks hS u_1 hP hD trivial (by rw [nth_hit c_12 hno c_20 (hq.symm.trans c_25)]; rfl) dX1_core_29
  exact loop_8 (128 - 0 + 1) 0 0 (by omega) rfl (fun t h => absurd h (Nat.not_lt_zero t)) (Nat.lt_succ_self _) _ _ hP hD hS ls (lv_sub hl [2, 3, 1, 0] rfl)
set_option maxHeartbeats 4000000 in
set_option maxRecDepth 100000 in
/-- repair(k) -/
theorem mX1_repair (l : Launch) (dC : Nat → ClassId) (dI : Nat → Nat → Nat) (ad : Nat → Nat) (cA : Nat → ClassId) (P : Nat) (y n : Nat → Nat) (f : Nat → Int32) (x : Nat) (hp7 : P < 128) (hn : ∀ k, n k < 16) (hx32 : x < 2 ^ 32) (sz : Nat) : MI l yX1_repair cX1_repair 4 (some .int) ({ frames := 5, cells := 0, slots := 0, locals := 111 } : Room) [.ref (ad 0), .int (nI x)] (dC, dI) (wM ad cA P y n f) (tM cA) sz (oI (fndN (nthB (repB y n P) x) 128)) (fun _ : Nat → Int32 => True) (fun u : Nat → Int32 => wM ad cA P y n u) := by
  refine MI.of (by decide) (Nat.le_of_ble_eq_true rfl) ?_
  intro p e s m below meth c hx hb hr hlocks hml hown hts hK A hA H locs hP hD hS ls hl
  have hown : s.vm.findClass "CoreFinderModel" = some m.cls := hown
  have hl : lv_has ls 4 [(0, .ref (ad 0)), (1, .int (nI x))] := hl
  refine lv_aload_n hx hb dX1_repair_0 rfl (lv_at hl 0 rfl) ?_
  refine mv_callV (ws0 := (wM ad cA P y n f)) (wr := []) (rest := []) ⟨hx, hb, hml, hown, hts⟩ [] (fun sz => (mX1_work l dC dI ad cA P y n f hn sz)) (lw_V q220 q222 qs14 q20 q223) hdX1_work ⟨Nat.le_of_ble_eq_true rfl, Nat.le_of_ble_eq_true rfl⟩ ⟨rfl, rfl⟩ hK [0, 1, 2, 3, 4] [] rfl rfl rfl rfl (fun _ h => absurd h List.not_mem_nil) rfl (q0 := 0) (ci := 1) rfl rfl rfl hl.1 rfl (Nat.le_of_ble_eq_true rfl) dX1_repair_1 ⟨Nat.zero_le _, Nat.zero_le _⟩ hA hP hD hS (fun u_1 H locs hu_1 hP hD hS => ?_)
  have hf : FineP y n P u_1 := hu_1
  have hP : va_P (dC, dI) vwCl (wM ad cA P y n u_1) H := hP
  have hD : va_D A (wM ad cA P y n u_1) := hD
  refine lv_iconst (v := (nI 0)) hx hb dX1_repair_4 (by decide) ?_
  refine lv_istore_n (lv' := [(2, .int (nI 0)), (0, .ref (ad 0)), (1, .int (nI x))]) hx hb dX1_repair_5 rfl hl (by decide) rfl (fun ls hl => ?_)
  refine lv_iconst (v := (nI 0)) hx hb dX1_repair_6 (by decide) ?_
  refine lv_istore_n (lv' := [(3, .int (nI 0)), (2, .int (nI 0)), (0, .ref (ad 0)), (1, .int (nI x))]) hx hb dX1_repair_7 rfl hl (by decide) rfl (fun ls hl => ?_)
  have loop_8 : ∀ (n_ : Nat) (q : Nat) (k : Nat), (k ≤ 128) → (q = cntN (repB y n P) k) → (∀ t, t < k → nthB (repB y n P) x t = false) → 128 - k < n_ → ∀ (H : Heap) (locs : List Loc), va_P (dC, dI) vwCl (wM ad cA P y n u_1) H → va_D A (wM ad cA P y n u_1) → va_S A s.heap H locs → ∀ (ls : Array Slot), lv_has ls 4 [(0, .ref (ad 0)), (1, .int (nI x)), (2, .int (nI q)), (3, .int (nI k))] → W p l e ({ frames := 5, cells := 0, slots := 0, locals := 111 } : Room) s m ([.ref (ad 0), .int (nI x)] : List Value).toArray below meth c H locs 0 0 (QI below A (dC, dI) (oI (fndN (nthB (repB y n P) x) 128)) (fun _ : Nat → Int32 => True) (fun u : Nat → Int32 => wM ad cA P y n u) ([.ref (ad 0), .int (nI x)] : List Value).toArray s) (F0 m 8 ls []) := by
    intro n_
    induction n_ with
    | zero =>
      intro q k hk hq hno hlt
      exact absurd hlt (Nat.not_lt_zero _)
    | succ n_ ih_8 =>
      intro q k hk hq hno hlt_8 H locs hP hD hS ls hl
      refine lv_iload_n hx hb dX1_repair_8 rfl (lv_at hl 3 rfl) ?_
      refine lv_sipush (v := (nI 128)) hx hb dX1_repair_9 (by decide) ?_
      refine nv_cgeN hx hb 39 (by first | omega | exact nd_lt (by omega) | exact Nat.lt_of_le_of_lt Nat.and_le_left (by omega) | exact Nat.lt_of_le_of_lt Nat.and_le_right (by omega)) (by first | omega | exact nd_lt (by omega) | exact Nat.lt_of_le_of_lt Nat.and_le_left (by omega) | exact Nat.lt_of_le_of_lt Nat.and_le_right (by omega)) dX1_repair_12 (by decide) (fun c_12 => ?_) (fun c_12 => ?_)
      · skip
        refine lv_iconst (v := (-1)) hx hb dX1_repair_39 (by decide) ?_
        exact mi_ret hx hb hr hlocks hS u_1 hP hD trivial (by rw [nth_miss c_12 hno]; rfl) dX1_repair_40
      · skip
        refine lv_aload_n hx hb dX1_repair_15 rfl (lv_at hl 0 rfl) ?_
        refine lv_iload_n hx hb dX1_repair_16 rfl (lv_at hl 3 rfl) ?_
        refine pi_callV (ws0 := (wM ad cA P y n u_1)) (rest := []) ⟨hx, hb, hml, hown, hts⟩ [.int (nI k)] (mX1_isRepair l dC dI ad cA P y n u_1 k hp7 hf (by omega)) (lw_V q238 q240 qs16 q20 q241) hdX1_isRepair ⟨Nat.le_of_ble_eq_true rfl, Nat.le_of_ble_eq_true rfl⟩ ⟨rfl, rfl⟩ hK hP (q0 := 0) (ci := 1) rfl rfl rfl hl.1 rfl (Nat.le_of_ble_eq_true rfl) dX1_repair_17 ⟨Nat.zero_le _, Nat.zero_le _⟩ hP hS (fun H locs hP hS => ?_)
        refine nv_eqB hx hb 33 dX1_repair_20 (by decide) (fun c_20 => ?_) (fun c_20 => ?_)
        · skip
          refine lv_iinc (v := (nI (k + 1))) (lv' := [(3, .int (nI (k + 1))), (0, .ref (ad 0)), (1, .int (nI x)), (2, .int (nI q))]) hx hb dX1_repair_33 hl (k := 3) rfl (nI_1 k) (by decide) rfl (fun ls hl => ?_)
          refine lv_goto (tgt := 8) hx hb dX1_repair_36 (by decide) ?_
          exact ih_8 q (k + 1) (by omega) (hq.trans (cnt_f' c_20)) (lt_step hno (by simp [nthB, c_20])) (by omega) _ _ hP hD hS ls (lv_sub hl [1, 2, 3, 0] rfl)
        · skip
          refine lv_iload_n hx hb dX1_repair_23 rfl (lv_at hl 2 rfl) ?_
          refine lv_iload_n hx hb dX1_repair_24 rfl (lv_at hl 1 rfl) ?_
          refine nv_cneN hx hb 30 (by rw [hq]; exact Nat.lt_of_le_of_lt (cntN_le _ _) (by omega)) hx32 dX1_repair_25 (by decide) (fun c_25 => ?_) (fun c_25 => ?_)
          · skip
            refine lv_iinc (v := (nI (q + 1))) (lv' := [(2, .int (nI (q + 1))), (0, .ref (ad 0)), (1, .int (nI x)), (3, .int (nI k))]) hx hb dX1_repair_30 hl (k := 2) rfl (nI_1 q) (by decide) rfl (fun ls hl => ?_)
            refine lv_iinc (v := (nI (k + 1))) (lv' := [(3, .int (nI (k + 1))), (2, .int (nI (q + 1))), (0, .ref (ad 0)), (1, .int (nI x))]) hx hb dX1_repair_33 hl (k := 3) rfl (nI_1 k) (by decide) rfl (fun ls hl => ?_)
            refine lv_goto (tgt := 8) hx hb dX1_repair_36 (by decide) ?_
            exact ih_8 (q + 1) (k + 1) (by omega) (by rw [hq, cnt_t c_20]) (lt_step hno (by simp [nthB, c_20, ← hq, c_25])) (by omega) _ _ hP hD hS ls (lv_sub hl [2, 3, 1, 0] rfl)
          · skip
            refine lv_iload_n hx hb dX1_repair_28 rfl (lv_at hl 3 rfl) ?_
            exact mi_ret hx hb hr hlocks hS u_1 hP hD trivial (by rw [nth_hit c_12 hno c_20 (hq.symm.trans c_25)]; rfl) dX1_repair_29
  exact loop_8 (128 - 0 + 1) 0 0 (by omega) rfl (fun t h => absurd h (Nat.not_lt_zero t)) (Nat.lt_succ_self _) _ _ hP hD hS ls (lv_sub hl [2, 3, 1, 0] rfl)
set_option maxHeartbeats 4000000 in
set_option maxRecDepth 100000 in
/-- guilty() -/
theorem mX1_guilty (l : Launch) (dC : Nat → ClassId) (dI : Nat → Nat → Nat) (ad : Nat → Nat) (cA : Nat → ClassId) (P : Nat) (y n : Nat → Nat) (f : Nat → Int32) (hp7 : P < 128) (hn : ∀ k, n k < 16) (sz : Nat) : MI l yX1_guilty cX1_guilty 3 (some .int) ({ frames := 5, cells := 0, slots := 0, locals := 111 } : Room) [.ref (ad 0)] (dC, dI) (wM ad cA P y n f) (tM cA) sz (nI (orN (coreB y n P) 128)) (fun _ : Nat → Int32 => True) (fun u : Nat → Int32 => wM ad cA P y n u) := by
  refine MI.of (by decide) (Nat.le_of_ble_eq_true rfl) ?_
  intro p e s m below meth c hx hb hr hlocks hml hown hts hK A hA H locs hP hD hS ls hl
  have hown : s.vm.findClass "CoreFinderModel" = some m.cls := hown
  have hl : lv_has ls 3 [(0, .ref (ad 0))] := hl
  refine lv_aload_n hx hb dX1_guilty_0 rfl (lv_at hl 0 rfl) ?_
  refine mv_callV (ws0 := (wM ad cA P y n f)) (wr := []) (rest := []) ⟨hx, hb, hml, hown, hts⟩ [] (fun sz => (mX1_work l dC dI ad cA P y n f hn sz)) (lw_V q220 q222 qs14 q20 q223) hdX1_work ⟨Nat.le_of_ble_eq_true rfl, Nat.le_of_ble_eq_true rfl⟩ ⟨rfl, rfl⟩ hK [0, 1, 2, 3, 4] [] rfl rfl rfl rfl (fun _ h => absurd h List.not_mem_nil) rfl (q0 := 0) (ci := 1) rfl rfl rfl hl.1 rfl (Nat.le_of_ble_eq_true rfl) dX1_guilty_1 ⟨Nat.zero_le _, Nat.zero_le _⟩ hA hP hD hS (fun u_1 H locs hu_1 hP hD hS => ?_)
  have hf : FineP y n P u_1 := hu_1
  have hP : va_P (dC, dI) vwCl (wM ad cA P y n u_1) H := hP
  have hD : va_D A (wM ad cA P y n u_1) := hD
  refine lv_iconst (v := (nI 0)) hx hb dX1_guilty_4 (by decide) ?_
  refine lv_istore_n (lv' := [(1, .int (nI 0)), (0, .ref (ad 0))]) hx hb dX1_guilty_5 rfl hl (by decide) rfl (fun ls hl => ?_)
  refine lv_iconst (v := (nI 0)) hx hb dX1_guilty_6 (by decide) ?_
  refine lv_istore_n (lv' := [(2, .int (nI 0)), (1, .int (nI 0)), (0, .ref (ad 0))]) hx hb dX1_guilty_7 rfl hl (by decide) rfl (fun ls hl => ?_)
  have loop_8 : ∀ (n_ : Nat) (q : Nat) (k : Nat), (k ≤ 128) → (q = orN (coreB y n P) k) → 128 - k < n_ → ∀ (H : Heap) (locs : List Loc), va_P (dC, dI) vwCl (wM ad cA P y n u_1) H → va_D A (wM ad cA P y n u_1) → va_S A s.heap H locs → ∀ (ls : Array Slot), lv_has ls 3 [(0, .ref (ad 0)), (1, .int (nI q)), (2, .int (nI k))] → W p l e ({ frames := 5, cells := 0, slots := 0, locals := 111 } : Room) s m ([.ref (ad 0)] : List Value).toArray below meth c H locs 0 0 (QI below A (dC, dI) (nI (orN (coreB y n P) 128)) (fun _ : Nat → Int32 => True) (fun u : Nat → Int32 => wM ad cA P y n u) ([.ref (ad 0)] : List Value).toArray s) (F0 m 8 ls []) := by
    intro n_
    induction n_ with
    | zero =>
      intro q k hk hq hlt
      exact absurd hlt (Nat.not_lt_zero _)
    | succ n_ ih_8 =>
      intro q k hk hq hlt_8 H locs hP hD hS ls hl
      refine lv_iload_n hx hb dX1_guilty_8 rfl (lv_at hl 2 rfl) ?_
      refine lv_sipush (v := (nI 128)) hx hb dX1_guilty_9 (by decide) ?_
      refine nv_cgeN hx hb 37 (by first | omega | exact nd_lt (by omega) | exact Nat.lt_of_le_of_lt Nat.and_le_left (by omega) | exact Nat.lt_of_le_of_lt Nat.and_le_right (by omega)) (by first | omega | exact nd_lt (by omega) | exact Nat.lt_of_le_of_lt Nat.and_le_left (by omega) | exact Nat.lt_of_le_of_lt Nat.and_le_right (by omega)) dX1_guilty_12 (by decide) (fun c_12 => ?_) (fun c_12 => ?_)
      · skip
        refine lv_iload_n hx hb dX1_guilty_37 rfl (lv_at hl 1 rfl) ?_
        exact mi_ret hx hb hr hlocks hS u_1 hP hD trivial (by rw [hq, show k = 128 by omega]) dX1_guilty_38
      · skip
        refine lv_aload_n hx hb dX1_guilty_15 rfl (lv_at hl 0 rfl) ?_
        refine lv_iload_n hx hb dX1_guilty_16 rfl (lv_at hl 2 rfl) ?_
        refine pi_callV (ws0 := (wM ad cA P y n u_1)) (rest := []) ⟨hx, hb, hml, hown, hts⟩ [.int (nI k)] (mX1_isCore l dC dI ad cA P y n u_1 k hp7 hf (by omega)) (lw_V q225 q227 qs15 q20 q228) hdX1_isCore ⟨Nat.le_of_ble_eq_true rfl, Nat.le_of_ble_eq_true rfl⟩ ⟨rfl, rfl⟩ hK hP (q0 := 0) (ci := 1) rfl rfl rfl hl.1 rfl (Nat.le_of_ble_eq_true rfl) dX1_guilty_17 ⟨Nat.zero_le _, Nat.zero_le _⟩ hP hS (fun H locs hP hS => ?_)
        refine nv_eqB hx hb 29 dX1_guilty_20 (by decide) (fun c_20 => ?_) (fun c_20 => ?_)
        · skip
          refine lv_iload_n hx hb dX1_guilty_29 rfl (lv_at hl 1 rfl) ?_
          refine lv_istore_n (lv' := [(1, .int (nI q)), (0, .ref (ad 0)), (2, .int (nI k))]) hx hb dX1_guilty_30 rfl hl (by decide) rfl (fun ls hl => ?_)
          refine lv_iinc (v := (nI (k + 1))) (lv' := [(2, .int (nI (k + 1))), (1, .int (nI q)), (0, .ref (ad 0))]) hx hb dX1_guilty_31 hl (k := 2) rfl (nI_1 k) (by decide) rfl (fun ls hl => ?_)
          refine lv_goto (tgt := 8) hx hb dX1_guilty_34 (by decide) ?_
          exact ih_8 q (k + 1) (by omega) (hq.trans (or_f' c_20)) (by omega) _ _ hP hD hS ls (lv_sub hl [2, 1, 0] rfl)
        · skip
          refine lv_iload_n hx hb dX1_guilty_23 rfl (lv_at hl 1 rfl) ?_
          refine lv_iload_n hx hb dX1_guilty_24 rfl (lv_at hl 2 rfl) ?_
          refine nv_or hx hb dX1_guilty_25 ?_
          refine lv_goto (tgt := 30) hx hb dX1_guilty_26 (by decide) ?_
          refine lv_istore_n (lv' := [(1, .int (nI (q ||| k))), (0, .ref (ad 0)), (2, .int (nI k))]) hx hb dX1_guilty_30 rfl hl (by decide) rfl (fun ls hl => ?_)
          refine lv_iinc (v := (nI (k + 1))) (lv' := [(2, .int (nI (k + 1))), (1, .int (nI (q ||| k))), (0, .ref (ad 0))]) hx hb dX1_guilty_31 hl (k := 2) rfl (nI_1 k) (by decide) rfl (fun ls hl => ?_)
          refine lv_goto (tgt := 8) hx hb dX1_guilty_34 (by decide) ?_
          exact ih_8 (q ||| k) (k + 1) (by omega) (by rw [hq, or_t c_20]) (by omega) _ _ hP hD hS ls (lv_sub hl [2, 1, 0] rfl)
  exact loop_8 (128 - 0 + 1) 0 0 (by omega) rfl (Nat.lt_succ_self _) _ _ hP hD hS ls (lv_sub hl [2, 1, 0] rfl)
set_option maxHeartbeats 4000000 in
set_option maxRecDepth 100000 in
/-- central() -/
theorem mX1_central (l : Launch) (dC : Nat → ClassId) (dI : Nat → Nat → Nat) (ad : Nat → Nat) (cA : Nat → ClassId) (P : Nat) (y n : Nat → Nat) (f : Nat → Int32) (hp7 : P < 128) (hn : ∀ k, n k < 16) (sz : Nat) : MI l yX1_central cX1_central 3 (some .int) ({ frames := 5, cells := 0, slots := 0, locals := 111 } : Room) [.ref (ad 0)] (dC, dI) (wM ad cA P y n f) (tM cA) sz (nI (andN P (coreB y n P) 128)) (fun _ : Nat → Int32 => True) (fun u : Nat → Int32 => wM ad cA P y n u) := by
  refine MI.of (by decide) (Nat.le_of_ble_eq_true rfl) ?_
  intro p e s m below meth c hx hb hr hlocks hml hown hts hK A hA H locs hP hD hS ls hl
  have hown : s.vm.findClass "CoreFinderModel" = some m.cls := hown
  have hl : lv_has ls 3 [(0, .ref (ad 0))] := hl
  refine lv_aload_n hx hb dX1_central_0 rfl (lv_at hl 0 rfl) ?_
  refine mv_callV (ws0 := (wM ad cA P y n f)) (wr := []) (rest := []) ⟨hx, hb, hml, hown, hts⟩ [] (fun sz => (mX1_work l dC dI ad cA P y n f hn sz)) (lw_V q220 q222 qs14 q20 q223) hdX1_work ⟨Nat.le_of_ble_eq_true rfl, Nat.le_of_ble_eq_true rfl⟩ ⟨rfl, rfl⟩ hK [0, 1, 2, 3, 4] [] rfl rfl rfl rfl (fun _ h => absurd h List.not_mem_nil) rfl (q0 := 0) (ci := 1) rfl rfl rfl hl.1 rfl (Nat.le_of_ble_eq_true rfl) dX1_central_1 ⟨Nat.zero_le _, Nat.zero_le _⟩ hA hP hD hS (fun u_1 H locs hu_1 hP hD hS => ?_)
  have hf : FineP y n P u_1 := hu_1
  have hP : va_P (dC, dI) vwCl (wM ad cA P y n u_1) H := hP
  have hD : va_D A (wM ad cA P y n u_1) := hD
  refine lv_aload_n hx hb dX1_central_4 rfl (lv_at hl 0 rfl) ?_
  refine pi_callV (ws0 := (wM ad cA P y n u_1)) (rest := []) ⟨hx, hb, hml, hown, hts⟩ [] (mX1_clauses l dC dI ad cA P y n u_1 hp7) (lw_V q229 q196 q197 q20 q198) hdX1_clauses ⟨Nat.le_of_ble_eq_true rfl, Nat.le_of_ble_eq_true rfl⟩ ⟨rfl, rfl⟩ hK hP (q0 := 0) (ci := 1) rfl rfl rfl hl.1 rfl (Nat.le_of_ble_eq_true rfl) dX1_central_5 ⟨Nat.zero_le _, Nat.zero_le _⟩ hP hS (fun H locs hP hS => ?_)
  refine lv_istore_n (lv' := [(1, .int (nI P)), (0, .ref (ad 0))]) hx hb dX1_central_8 rfl hl (by decide) rfl (fun ls hl => ?_)
  refine lv_iconst (v := (nI 0)) hx hb dX1_central_9 (by decide) ?_
  refine lv_istore_n (lv' := [(2, .int (nI 0)), (1, .int (nI P)), (0, .ref (ad 0))]) hx hb dX1_central_10 rfl hl (by decide) rfl (fun ls hl => ?_)
  have loop_11 : ∀ (n_ : Nat) (q : Nat) (k : Nat), (k ≤ 128) → (q = andN P (coreB y n P) k) → 128 - k < n_ → ∀ (H : Heap) (locs : List Loc), va_P (dC, dI) vwCl (wM ad cA P y n u_1) H → va_D A (wM ad cA P y n u_1) → va_S A s.heap H locs → ∀ (ls : Array Slot), lv_has ls 3 [(0, .ref (ad 0)), (1, .int (nI q)), (2, .int (nI k))] → W p l e ({ frames := 5, cells := 0, slots := 0, locals := 111 } : Room) s m ([.ref (ad 0)] : List Value).toArray below meth c H locs 0 0 (QI below A (dC, dI) (nI (andN P (coreB y n P) 128)) (fun _ : Nat → Int32 => True) (fun u : Nat → Int32 => wM ad cA P y n u) ([.ref (ad 0)] : List Value).toArray s) (F0 m 11 ls []) := by
    intro n_
    induction n_ with
    | zero =>
      intro q k hk hq hlt
      exact absurd hlt (Nat.not_lt_zero _)
    | succ n_ ih_11 =>
      intro q k hk hq hlt_11 H locs hP hD hS ls hl
      refine lv_iload_n hx hb dX1_central_11 rfl (lv_at hl 2 rfl) ?_
      refine lv_sipush (v := (nI 128)) hx hb dX1_central_12 (by decide) ?_
      refine nv_cgeN hx hb 40 (by first | omega | exact nd_lt (by omega) | exact Nat.lt_of_le_of_lt Nat.and_le_left (by omega) | exact Nat.lt_of_le_of_lt Nat.and_le_right (by omega)) (by first | omega | exact nd_lt (by omega) | exact Nat.lt_of_le_of_lt Nat.and_le_left (by omega) | exact Nat.lt_of_le_of_lt Nat.and_le_right (by omega)) dX1_central_15 (by decide) (fun c_15 => ?_) (fun c_15 => ?_)
      · skip
        refine lv_iload_n hx hb dX1_central_40 rfl (lv_at hl 1 rfl) ?_
        exact mi_ret hx hb hr hlocks hS u_1 hP hD trivial (by rw [hq, show k = 128 by omega]) dX1_central_41
      · skip
        refine lv_aload_n hx hb dX1_central_18 rfl (lv_at hl 0 rfl) ?_
        refine lv_iload_n hx hb dX1_central_19 rfl (lv_at hl 2 rfl) ?_
        refine pi_callV (ws0 := (wM ad cA P y n u_1)) (rest := []) ⟨hx, hb, hml, hown, hts⟩ [.int (nI k)] (mX1_isCore l dC dI ad cA P y n u_1 k hp7 hf (by omega)) (lw_V q225 q227 qs15 q20 q228) hdX1_isCore ⟨Nat.le_of_ble_eq_true rfl, Nat.le_of_ble_eq_true rfl⟩ ⟨rfl, rfl⟩ hK hP (q0 := 0) (ci := 1) rfl rfl rfl hl.1 rfl (Nat.le_of_ble_eq_true rfl) dX1_central_20 ⟨Nat.zero_le _, Nat.zero_le _⟩ hP hS (fun H locs hP hS => ?_)
        refine nv_eqB hx hb 32 dX1_central_23 (by decide) (fun c_23 => ?_) (fun c_23 => ?_)
        · skip
          refine lv_iload_n hx hb dX1_central_32 rfl (lv_at hl 1 rfl) ?_
          refine lv_istore_n (lv' := [(1, .int (nI q)), (0, .ref (ad 0)), (2, .int (nI k))]) hx hb dX1_central_33 rfl hl (by decide) rfl (fun ls hl => ?_)
          refine lv_iinc (v := (nI (k + 1))) (lv' := [(2, .int (nI (k + 1))), (1, .int (nI q)), (0, .ref (ad 0))]) hx hb dX1_central_34 hl (k := 2) rfl (nI_1 k) (by decide) rfl (fun ls hl => ?_)
          refine lv_goto (tgt := 11) hx hb dX1_central_37 (by decide) ?_
          exact ih_11 q (k + 1) (by omega) (hq.trans (and_f' c_23)) (by omega) _ _ hP hD hS ls (lv_sub hl [2, 1, 0] rfl)
        · skip
          refine lv_iload_n hx hb dX1_central_26 rfl (lv_at hl 1 rfl) ?_
          refine lv_iload_n hx hb dX1_central_27 rfl (lv_at hl 2 rfl) ?_
          refine nv_and hx hb dX1_central_28 ?_
          refine lv_goto (tgt := 33) hx hb dX1_central_29 (by decide) ?_
          refine lv_istore_n (lv' := [(1, .int (nI (q &&& k))), (0, .ref (ad 0)), (2, .int (nI k))]) hx hb dX1_central_33 rfl hl (by decide) rfl (fun ls hl => ?_)
          refine lv_iinc (v := (nI (k + 1))) (lv' := [(2, .int (nI (k + 1))), (1, .int (nI (q &&& k))), (0, .ref (ad 0))]) hx hb dX1_central_34 hl (k := 2) rfl (nI_1 k) (by decide) rfl (fun ls hl => ?_)
          refine lv_goto (tgt := 11) hx hb dX1_central_37 (by decide) ?_
          exact ih_11 (q &&& k) (k + 1) (by omega) (by rw [hq, and_t c_23]) (by omega) _ _ hP hD hS ls (lv_sub hl [2, 1, 0] rfl)
  exact loop_11 (128 - 0 + 1) P 0 (by omega) rfl (Nat.lt_succ_self _) _ _ hP hD hS ls (lv_sub hl [2, 1, 0] rfl)
set_option maxHeartbeats 4000000 in
set_option maxRecDepth 100000 in
/-- smallestCore() -/
theorem mX1_smallestCore (l : Launch) (dC : Nat → ClassId) (dI : Nat → Nat → Nat) (ad : Nat → Nat) (cA : Nat → ClassId) (P : Nat) (y n : Nat → Nat) (f : Nat → Int32) (hp7 : P < 128) (hn : ∀ k, n k < 16) (sz : Nat) : MI l yX1_smallestCore cX1_smallestCore 4 (some .int) ({ frames := 5, cells := 0, slots := 0, locals := 111 } : Room) [.ref (ad 0)] (dC, dI) (wM ad cA P y n f) (tM cA) sz (oI (minN (coreB y n P) 128)) (fun _ : Nat → Int32 => True) (fun u : Nat → Int32 => wM ad cA P y n u) := by
  refine MI.of (by decide) (Nat.le_of_ble_eq_true rfl) ?_
  intro p e s m below meth c hx hb hr hlocks hml hown hts hK A hA H locs hP hD hS ls hl
  have hown : s.vm.findClass "CoreFinderModel" = some m.cls := hown
  have hl : lv_has ls 4 [(0, .ref (ad 0))] := hl
  refine lv_aload_n hx hb dX1_smallestCore_0 rfl (lv_at hl 0 rfl) ?_
  refine mv_callV (ws0 := (wM ad cA P y n f)) (wr := []) (rest := []) ⟨hx, hb, hml, hown, hts⟩ [] (fun sz => (mX1_work l dC dI ad cA P y n f hn sz)) (lw_V q220 q222 qs14 q20 q223) hdX1_work ⟨Nat.le_of_ble_eq_true rfl, Nat.le_of_ble_eq_true rfl⟩ ⟨rfl, rfl⟩ hK [0, 1, 2, 3, 4] [] rfl rfl rfl rfl (fun _ h => absurd h List.not_mem_nil) rfl (q0 := 0) (ci := 1) rfl rfl rfl hl.1 rfl (Nat.le_of_ble_eq_true rfl) dX1_smallestCore_1 ⟨Nat.zero_le _, Nat.zero_le _⟩ hA hP hD hS (fun u_1 H locs hu_1 hP hD hS => ?_)
  have hf : FineP y n P u_1 := hu_1
  have hP : va_P (dC, dI) vwCl (wM ad cA P y n u_1) H := hP
  have hD : va_D A (wM ad cA P y n u_1) := hD
  refine lv_iconst (v := (-1)) hx hb dX1_smallestCore_4 (by decide) ?_
  refine lv_istore_n (lv' := [(1, .int (-1)), (0, .ref (ad 0))]) hx hb dX1_smallestCore_5 rfl hl (by decide) rfl (fun ls hl => ?_)
  refine lv_iconst (v := (nI 0)) hx hb dX1_smallestCore_6 (by decide) ?_
  refine lv_istore_n (lv' := [(2, .int (nI 0)), (1, .int (-1)), (0, .ref (ad 0))]) hx hb dX1_smallestCore_7 rfl hl (by decide) rfl (fun ls hl => ?_)
  have loop_8 : ∀ (n_ : Nat) (o : Option Nat) (k : Nat), (k ≤ 128) → (o = minN (coreB y n P) k) → 128 - k < n_ → ∀ (H : Heap) (locs : List Loc), va_P (dC, dI) vwCl (wM ad cA P y n u_1) H → va_D A (wM ad cA P y n u_1) → va_S A s.heap H locs → ∀ (ls : Array Slot), lv_has ls 4 [(0, .ref (ad 0)), (1, .int (oI o)), (2, .int (nI k))] → W p l e ({ frames := 5, cells := 0, slots := 0, locals := 111 } : Room) s m ([.ref (ad 0)] : List Value).toArray below meth c H locs 0 0 (QI below A (dC, dI) (oI (minN (coreB y n P) 128)) (fun _ : Nat → Int32 => True) (fun u : Nat → Int32 => wM ad cA P y n u) ([.ref (ad 0)] : List Value).toArray s) (F0 m 8 ls []) := by
    intro n_
    induction n_ with
    | zero =>
      intro o k hk hq hlt
      exact absurd hlt (Nat.not_lt_zero _)
    | succ n_ ih_8 =>
      intro o k hk hq hlt_8 H locs hP hD hS ls hl
      refine lv_iload_n hx hb dX1_smallestCore_8 rfl (lv_at hl 2 rfl) ?_
      refine lv_sipush (v := (nI 128)) hx hb dX1_smallestCore_9 (by decide) ?_
      refine nv_cgeN hx hb 50 (by first | omega | exact nd_lt (by omega) | exact Nat.lt_of_le_of_lt Nat.and_le_left (by omega) | exact Nat.lt_of_le_of_lt Nat.and_le_right (by omega)) (by first | omega | exact nd_lt (by omega) | exact Nat.lt_of_le_of_lt Nat.and_le_left (by omega) | exact Nat.lt_of_le_of_lt Nat.and_le_right (by omega)) dX1_smallestCore_12 (by decide) (fun c_12 => ?_) (fun c_12 => ?_)
      · skip
        refine lv_iload_n hx hb dX1_smallestCore_50 rfl (lv_at hl 1 rfl) ?_
        exact mi_ret hx hb hr hlocks hS u_1 hP hD trivial (by rw [hq, show k = 128 by omega]) dX1_smallestCore_51
      · skip
        refine lv_aload_n hx hb dX1_smallestCore_15 rfl (lv_at hl 0 rfl) ?_
        refine lv_iload_n hx hb dX1_smallestCore_16 rfl (lv_at hl 2 rfl) ?_
        refine pi_callV (ws0 := (wM ad cA P y n u_1)) (rest := []) ⟨hx, hb, hml, hown, hts⟩ [.int (nI k)] (mX1_ones l dC dI ad cA P y n u_1 k) (lw_V q258 q260 qs17 q20 q261) hdX1_ones ⟨Nat.le_of_ble_eq_true rfl, Nat.le_of_ble_eq_true rfl⟩ ⟨rfl, rfl⟩ hK hP (q0 := 0) (ci := 1) rfl rfl rfl hl.1 rfl (Nat.le_of_ble_eq_true rfl) dX1_smallestCore_17 ⟨Nat.zero_le _, Nat.zero_le _⟩ hP hS (fun H locs hP hS => ?_)
        refine lv_istore_n (lv' := [(3, .int (nI (on7 k 7))), (0, .ref (ad 0)), (1, .int (oI o)), (2, .int (nI k))]) hx hb dX1_smallestCore_20 rfl hl (by decide) rfl (fun ls hl => ?_)
        refine lv_aload_n hx hb dX1_smallestCore_21 rfl (lv_at hl 1 rfl) ?_
        refine lv_iload_n hx hb dX1_smallestCore_22 rfl (lv_at hl 3 rfl) ?_
        refine pi_callV (ws0 := (wM ad cA P y n u_1)) (rest := []) ⟨hx, hb, hml, hown, hts⟩ [.int (nI k)] (mX1_isCore l dC dI ad cA P y n u_1 k hp7 hf (by omega)) (lw_V q225 q227 qs15 q20 q228) hdX1_isCore ⟨Nat.le_of_ble_eq_true rfl, Nat.le_of_ble_eq_true rfl⟩ ⟨rfl, rfl⟩ hK hP (q0 := 0) (ci := 1) rfl rfl rfl hl.1 rfl (Nat.le_of_ble_eq_true rfl) dX1_smallestCore_23 ⟨Nat.zero_le _, Nat.zero_le _⟩ hP hS (fun H locs hP hS => ?_)
        refine nv_eqB hx hb 42 dX1_smallestCore_26 (by decide) (fun c_26 => ?_) (fun c_26 => ?_)
        · skip
          refine lv_iload_n hx hb dX1_smallestCore_42 rfl (lv_at hl 2 rfl) ?_
          refine lv_istore_n (lv' := [(1, .int (oI o)), (3, .int (nI (on7 k 7))), (0, .ref (ad 0)), (2, .int (nI k))]) hx hb dX1_smallestCore_43 rfl hl (by decide) rfl (fun ls hl => ?_)
          refine lv_iinc (v := (nI (k + 1))) (lv' := [(2, .int (nI (k + 1))), (1, .int (oI o)), (3, .int (nI (on7 k 7))), (0, .ref (ad 0))]) hx hb dX1_smallestCore_44 hl (k := 3) rfl (nI_1 k) (by decide) rfl (fun ls hl => ?_)
          refine lv_goto (tgt := 8) hx hb dX1_smallestCore_47 (by decide) ?_
          exact ih_8 o (k + 1) (by omega) (hq.trans (min_f c_26)) (by omega) _ _ hP hD hS ls (lv_sub hl [3, 1, 0] rfl)
        · skip
          refine lv_iload_n hx hb dX1_smallestCore_29 rfl (lv_at hl 2 rfl) ?_
          refine nv_ltO hx hb 38 (fun j hj => minN_lt (hq.symm.trans hj)) dX1_smallestCore_30 (by decide) (fun c_30 => ?_) (fun k_30 c_30 => ?_)
          · skip
            refine lv_iload_n hx hb dX1_smallestCore_38 rfl (lv_at hl 0 rfl) ?_
            refine lv_goto (tgt := 43) hx hb dX1_smallestCore_39 (by decide) ?_
            refine lv_istore_n (lv' := [(1, .int (nI (on7 k 7))), (3, .int (nI (on7 k 7))), (0, .ref (ad 0)), (2, .int (nI k))]) hx hb dX1_smallestCore_43 rfl hl (by decide) rfl (fun ls hl => ?_)
            refine lv_iinc (v := (nI (k + 1))) (lv' := [(2, .int (nI (k + 1))), (1, .int (nI (on7 k 7))), (3, .int (nI (on7 k 7))), (0, .ref (ad 0))]) hx hb dX1_smallestCore_44 hl (k := 3) rfl (nI_1 k) (by decide) rfl (fun ls hl => ?_)
            refine lv_goto (tgt := 8) hx hb dX1_smallestCore_47 (by decide) ?_
            exact ih_8 (some (on7 k 7)) (k + 1) (by omega) (min_y0 c_26 (c_30.symm.trans hq)) (by omega) _ _ hP hD hS ls (lv_sub hl [3, 1, 0] rfl)
          · skip
            subst c_30
            have hl : lv_has ls 4 [(3, .int (nI (on7 k 7))), (0, .ref (ad 0)), (1, .int (nI k_30)), (2, .int (nI k))] := hl
            refine lv_iload_n hx hb dX1_smallestCore_33 rfl (lv_at hl 0 rfl) ?_
            refine lv_iload_n hx hb dX1_smallestCore_34 rfl (lv_at hl 2 rfl) ?_
            refine nv_cgeN hx hb 42 (on31 _) (minN_lt hq.symm) dX1_smallestCore_35 (by decide) (fun c_35 => ?_) (fun c_35 => ?_)
            · skip
              refine lv_iload_n hx hb dX1_smallestCore_42 rfl (lv_at hl 2 rfl) ?_
              refine lv_istore_n (lv' := [(1, .int (nI k_30)), (3, .int (nI (on7 k 7))), (0, .ref (ad 0)), (2, .int (nI k))]) hx hb dX1_smallestCore_43 rfl hl (by decide) rfl (fun ls hl => ?_)
              refine lv_iinc (v := (nI (k + 1))) (lv' := [(2, .int (nI (k + 1))), (1, .int (nI k_30)), (3, .int (nI (on7 k 7))), (0, .ref (ad 0))]) hx hb dX1_smallestCore_44 hl (k := 3) rfl (nI_1 k) (by decide) rfl (fun ls hl => ?_)
              refine lv_goto (tgt := 8) hx hb dX1_smallestCore_47 (by decide) ?_
              exact ih_8 (some k_30) (k + 1) (by omega) (min_n hq c_35) (by omega) _ _ hP hD hS ls (lv_sub hl [3, 1, 0] rfl)
            · skip
              refine lv_iload_n hx hb dX1_smallestCore_38 rfl (lv_at hl 0 rfl) ?_
              refine lv_goto (tgt := 43) hx hb dX1_smallestCore_39 (by decide) ?_
              refine lv_istore_n (lv' := [(1, .int (nI (on7 k 7))), (3, .int (nI (on7 k 7))), (0, .ref (ad 0)), (2, .int (nI k))]) hx hb dX1_smallestCore_43 rfl hl (by decide) rfl (fun ls hl => ?_)
              refine lv_iinc (v := (nI (k + 1))) (lv' := [(2, .int (nI (k + 1))), (1, .int (nI (on7 k 7))), (3, .int (nI (on7 k 7))), (0, .ref (ad 0))]) hx hb dX1_smallestCore_44 hl (k := 3) rfl (nI_1 k) (by decide) rfl (fun ls hl => ?_)
              refine lv_goto (tgt := 8) hx hb dX1_smallestCore_47 (by decide) ?_
              exact ih_8 (some (on7 k 7)) (k + 1) (by omega) (min_y c_26 hq c_35) (by omega) _ _ hP hD hS ls (lv_sub hl [3, 1, 0] rfl)
  exact loop_8 (128 - 0 + 1) none 0 (by omega) rfl (Nat.lt_succ_self _) _ _ hP hD hS ls (lv_sub hl [2, 1, 0] rfl)
set_option maxHeartbeats 4000000 in
set_option maxRecDepth 100000 in
/-- mostTogether() -/
theorem mX1_mostTogether (l : Launch) (dC : Nat → ClassId) (dI : Nat → Nat → Nat) (ad : Nat → Nat) (cA : Nat → ClassId) (P : Nat) (y n : Nat → Nat) (f : Nat → Int32) (hp7 : P < 128) (hn : ∀ k, n k < 16) (sz : Nat) : MI l yX1_mostTogether cX1_mostTogether 4 (some .int) ({ frames := 5, cells := 0, slots := 0, locals := 111 } : Room) [.ref (ad 0)] (dC, dI) (wM ad cA P y n f) (tM cA) sz (nI (mtM (consB y n P) 128)) (fun _ : Nat → Int32 => True) (fun u : Nat → Int32 => wM ad cA P y n u) := by
  refine MI.of (by decide) (Nat.le_of_ble_eq_true rfl) ?_
  intro p e s m below meth c hx hb hr hlocks hml hown hts hK A hA H locs hP hD hS ls hl
  have hown : s.vm.findClass "CoreFinderModel" = some m.cls := hown
  have hl : lv_has ls 4 [(0, .ref (ad 0))] := hl
  refine lv_aload_n hx hb dX1_mostTogether_0 rfl (lv_at hl 0 rfl) ?_
  refine mv_callV (ws0 := (wM ad cA P y n f)) (wr := []) (rest := []) ⟨hx, hb, hml, hown, hts⟩ [] (fun sz => (mX1_work l dC dI ad cA P y n f hn sz)) (lw_V q220 q222 qs14 q20 q223) hdX1_work ⟨Nat.le_of_ble_eq_true rfl, Nat.le_of_ble_eq_true rfl⟩ ⟨rfl, rfl⟩ hK [0, 1, 2, 3, 4] [] rfl rfl rfl rfl (fun _ h => absurd h List.not_mem_nil) rfl (q0 := 0) (ci := 1) rfl rfl rfl hl.1 rfl (Nat.le_of_ble_eq_true rfl) dX1_mostTogether_1 ⟨Nat.zero_le _, Nat.zero_le _⟩ hA hP hD hS (fun u_1 H locs hu_1 hP hD hS => ?_)
  have hf : FineP y n P u_1 := hu_1
  have hP : va_P (dC, dI) vwCl (wM ad cA P y n u_1) H := hP
  have hD : va_D A (wM ad cA P y n u_1) := hD
  refine lv_iconst (v := (nI 0)) hx hb dX1_mostTogether_4 (by decide) ?_
  refine lv_istore_n (lv' := [(1, .int (nI 0)), (0, .ref (ad 0))]) hx hb dX1_mostTogether_5 rfl hl (by decide) rfl (fun ls hl => ?_)
  refine lv_iconst (v := (nI 0)) hx hb dX1_mostTogether_6 (by decide) ?_
  refine lv_istore_n (lv' := [(2, .int (nI 0)), (1, .int (nI 0)), (0, .ref (ad 0))]) hx hb dX1_mostTogether_7 rfl hl (by decide) rfl (fun ls hl => ?_)
  have loop_8 : ∀ (n_ : Nat) (q : Nat) (k : Nat), (k ≤ 128) → (q = mtM (consB y n P) k) → 128 - k < n_ → ∀ (H : Heap) (locs : List Loc), va_P (dC, dI) vwCl (wM ad cA P y n u_1) H → va_D A (wM ad cA P y n u_1) → va_S A s.heap H locs → ∀ (ls : Array Slot), lv_has ls 4 [(0, .ref (ad 0)), (1, .int (nI q)), (2, .int (nI k))] → W p l e ({ frames := 5, cells := 0, slots := 0, locals := 111 } : Room) s m ([.ref (ad 0)] : List Value).toArray below meth c H locs 0 0 (QI below A (dC, dI) (nI (mtM (consB y n P) 128)) (fun _ : Nat → Int32 => True) (fun u : Nat → Int32 => wM ad cA P y n u) ([.ref (ad 0)] : List Value).toArray s) (F0 m 8 ls []) := by
    intro n_
    induction n_ with
    | zero =>
      intro q k hk hq hlt
      exact absurd hlt (Nat.not_lt_zero _)
    | succ n_ ih_8 =>
      intro q k hk hq hlt_8 H locs hP hD hS ls hl
      refine lv_iload_n hx hb dX1_mostTogether_8 rfl (lv_at hl 2 rfl) ?_
      refine lv_sipush (v := (nI 128)) hx hb dX1_mostTogether_9 (by decide) ?_
      refine nv_cgeN hx hb 58 (by first | omega | exact nd_lt (by omega) | exact Nat.lt_of_le_of_lt Nat.and_le_left (by omega) | exact Nat.lt_of_le_of_lt Nat.and_le_right (by omega)) (by first | omega | exact nd_lt (by omega) | exact Nat.lt_of_le_of_lt Nat.and_le_left (by omega) | exact Nat.lt_of_le_of_lt Nat.and_le_right (by omega)) dX1_mostTogether_12 (by decide) (fun c_12 => ?_) (fun c_12 => ?_)
      · skip
        refine lv_iload_n hx hb dX1_mostTogether_58 rfl (lv_at hl 1 rfl) ?_
        exact mi_ret hx hb hr hlocks hS u_1 hP hD trivial (by rw [hq, show k = 128 by omega]) dX1_mostTogether_59
      · skip
        refine lv_aload_n hx hb dX1_mostTogether_15 rfl (lv_at hl 0 rfl) ?_
        refine lv_iload_n hx hb dX1_mostTogether_16 rfl (lv_at hl 2 rfl) ?_
        refine pi_callV (ws0 := (wM ad cA P y n u_1)) (rest := []) ⟨hx, hb, hml, hown, hts⟩ [.int (nI k)] (mX1_ones l dC dI ad cA P y n u_1 k) (lw_V q258 q260 qs17 q20 q261) hdX1_ones ⟨Nat.le_of_ble_eq_true rfl, Nat.le_of_ble_eq_true rfl⟩ ⟨rfl, rfl⟩ hK hP (q0 := 0) (ci := 1) rfl rfl rfl hl.1 rfl (Nat.le_of_ble_eq_true rfl) dX1_mostTogether_17 ⟨Nat.zero_le _, Nat.zero_le _⟩ hP hS (fun H locs hP hS => ?_)
        refine lv_istore_n (lv' := [(3, .int (nI (on7 k 7))), (0, .ref (ad 0)), (1, .int (nI q)), (2, .int (nI k))]) hx hb dX1_mostTogether_20 rfl hl (by decide) rfl (fun ls hl => ?_)
        refine lv_iload_n hx hb dX1_mostTogether_21 rfl (lv_at hl 3 rfl) ?_
        refine lv_aload_n hx hb dX1_mostTogether_22 rfl (lv_at hl 1 rfl) ?_
        refine pi_callV (ws0 := (wM ad cA P y n u_1)) (rest := [.int (nI k)]) ⟨hx, hb, hml, hown, hts⟩ [] (mX1_clauses l dC dI ad cA P y n u_1 hp7) (lw_V q229 q196 q197 q20 q198) hdX1_clauses ⟨Nat.le_of_ble_eq_true rfl, Nat.le_of_ble_eq_true rfl⟩ ⟨rfl, rfl⟩ hK hP (q0 := 0) (ci := 1) rfl rfl rfl hl.1 rfl (Nat.le_of_ble_eq_true rfl) dX1_mostTogether_23 ⟨Nat.zero_le _, Nat.zero_le _⟩ hP hS (fun H locs hP hS => ?_)
        refine lv_iconst (v := (-1)) hx hb dX1_mostTogether_26 (by decide) ?_
        refine lv_ixor hx hb dX1_mostTogether_27 ?_
        refine nv_andn hx hb dX1_mostTogether_28 ?_
        refine nv_neN hx hb 50 (by first | omega | exact nd_lt (by omega) | exact Nat.lt_of_le_of_lt Nat.and_le_left (by omega) | exact Nat.lt_of_le_of_lt Nat.and_le_right (by omega)) dX1_mostTogether_29 (by decide) (fun c_29 => ?_) (fun c_29 => ?_)
        · skip
          refine lv_iload_n hx hb dX1_mostTogether_50 rfl (lv_at hl 2 rfl) ?_
          refine lv_istore_n (lv' := [(1, .int (nI q)), (3, .int (nI (on7 k 7))), (0, .ref (ad 0)), (2, .int (nI k))]) hx hb dX1_mostTogether_51 rfl hl (by decide) rfl (fun ls hl => ?_)
          refine lv_iinc (v := (nI (k + 1))) (lv' := [(2, .int (nI (k + 1))), (1, .int (nI q)), (3, .int (nI (on7 k 7))), (0, .ref (ad 0))]) hx hb dX1_mostTogether_52 hl (k := 3) rfl (nI_1 k) (by decide) rfl (fun ls hl => ?_)
          refine lv_goto (tgt := 8) hx hb dX1_mostTogether_55 (by decide) ?_
          exact ih_8 q (k + 1) (by omega) (hq.trans (mtM_f (by simp [consB, c_29]))) (by omega) _ _ hP hD hS ls (lv_sub hl [3, 1, 0] rfl)
        · skip
          refine lv_aload_n hx hb dX1_mostTogether_32 rfl (lv_at hl 1 rfl) ?_
          refine va_get (D := (dC, dI)) (ci := 1) (v := .ref (ad 4)) (C := RX1) (T := TX1) (N := 4) hx hb hts in_X1 hown hK hP 0 rfl rfl 3 (by decide) (hts _ q171) (fun _ h9 => h9) rfl dX1_mostTogether_33 ?_
          refine lv_iload_n hx hb dX1_mostTogether_36 rfl (lv_at hl 3 rfl) ?_
          refine nv_zald hx hb hK hP 4 3 rfl rfl (by first | omega | exact nd_lt (by omega) | exact Nat.lt_of_le_of_lt Nat.and_le_left (by omega) | exact Nat.lt_of_le_of_lt Nat.and_le_right (by omega)) (by decide) dX1_mostTogether_37 ?_
          refine nv_e (y := (bI (cB y n k))) (by rw [hf k c_12, and_sub c_29]) ?_
          refine nv_eqB hx hb 50 dX1_mostTogether_38 (by decide) (fun c_38 => ?_) (fun c_38 => ?_)
          · skip
            refine lv_iload_n hx hb dX1_mostTogether_50 rfl (lv_at hl 2 rfl) ?_
            refine lv_istore_n (lv' := [(1, .int (nI q)), (3, .int (nI (on7 k 7))), (0, .ref (ad 0)), (2, .int (nI k))]) hx hb dX1_mostTogether_51 rfl hl (by decide) rfl (fun ls hl => ?_)
            refine lv_iinc (v := (nI (k + 1))) (lv' := [(2, .int (nI (k + 1))), (1, .int (nI q)), (3, .int (nI (on7 k 7))), (0, .ref (ad 0))]) hx hb dX1_mostTogether_52 hl (k := 3) rfl (nI_1 k) (by decide) rfl (fun ls hl => ?_)
            refine lv_goto (tgt := 8) hx hb dX1_mostTogether_55 (by decide) ?_
            exact ih_8 q (k + 1) (by omega) (hq.trans (mtM_f (by simp [consB, c_38]))) (by omega) _ _ hP hD hS ls (lv_sub hl [3, 1, 0] rfl)
          · skip
            refine lv_iload_n hx hb dX1_mostTogether_41 rfl (lv_at hl 0 rfl) ?_
            refine lv_iload_n hx hb dX1_mostTogether_42 rfl (lv_at hl 2 rfl) ?_
            refine nv_cleN hx hb 50 (on31 _) (by rw [hq]; exact Nat.lt_of_le_of_lt (mtM_le _ _) (by decide)) dX1_mostTogether_43 (by decide) (fun c_43 => ?_) (fun c_43 => ?_)
            · skip
              refine lv_iload_n hx hb dX1_mostTogether_50 rfl (lv_at hl 2 rfl) ?_
              refine lv_istore_n (lv' := [(1, .int (nI q)), (3, .int (nI (on7 k 7))), (0, .ref (ad 0)), (2, .int (nI k))]) hx hb dX1_mostTogether_51 rfl hl (by decide) rfl (fun ls hl => ?_)
              refine lv_iinc (v := (nI (k + 1))) (lv' := [(2, .int (nI (k + 1))), (1, .int (nI q)), (3, .int (nI (on7 k 7))), (0, .ref (ad 0))]) hx hb dX1_mostTogether_52 hl (k := 3) rfl (nI_1 k) (by decide) rfl (fun ls hl => ?_)
              refine lv_goto (tgt := 8) hx hb dX1_mostTogether_55 (by decide) ?_
              exact ih_8 q (k + 1) (by omega) (hq.trans (mtM_n (by rw [← hq]; exact c_43))) (by omega) _ _ hP hD hS ls (lv_sub hl [3, 1, 0] rfl)
            · skip
              refine lv_iload_n hx hb dX1_mostTogether_46 rfl (lv_at hl 0 rfl) ?_
              refine lv_goto (tgt := 51) hx hb dX1_mostTogether_47 (by decide) ?_
              refine lv_istore_n (lv' := [(1, .int (nI (on7 k 7))), (3, .int (nI (on7 k 7))), (0, .ref (ad 0)), (2, .int (nI k))]) hx hb dX1_mostTogether_51 rfl hl (by decide) rfl (fun ls hl => ?_)
              refine lv_iinc (v := (nI (k + 1))) (lv' := [(2, .int (nI (k + 1))), (1, .int (nI (on7 k 7))), (3, .int (nI (on7 k 7))), (0, .ref (ad 0))]) hx hb dX1_mostTogether_52 hl (k := 3) rfl (nI_1 k) (by decide) rfl (fun ls hl => ?_)
              refine lv_goto (tgt := 8) hx hb dX1_mostTogether_55 (by decide) ?_
              exact ih_8 (on7 k 7) (k + 1) (by omega) (mtM_y (by simp [consB, c_29, c_38]) (by rw [← hq]; exact c_43)) (by omega) _ _ hP hD hS ls (lv_sub hl [3, 1, 0] rfl)
  exact loop_8 (128 - 0 + 1) 0 0 (by omega) rfl (Nat.lt_succ_self _) _ _ hP hD hS ls (lv_sub hl [2, 1, 0] rfl)
set_option maxHeartbeats 4000000 in
set_option maxRecDepth 100000 in
/-- follows(pos, neg) -/
theorem mX1_follows (l : Launch) (dC : Nat → ClassId) (dI : Nat → Nat → Nat) (ad : Nat → Nat) (cA : Nat → ClassId) (P : Nat) (y n : Nat → Nat) (f : Nat → Int32) (a b : Nat) (hn : ∀ k, n k < 16) (hb2 : b < 2 ^ 32) : PI l yX1_follows cX1_follows 5 (some .boolean) ({ frames := 2, cells := 0, slots := 0, locals := 47 } : Room) [.ref (ad 0), .int (nI a), .int (nI b)] (dC, dI) (wM ad cA P y n f) (tM cA) (bI (flwM y n P a b)) := by
  refine PI.of (by decide) (Nat.le_of_ble_eq_true rfl) ?_
  intro p e s m below meth c hx hb hr hlocks hml hown hts hK H locs hP hS ls hl
  have hown : s.vm.findClass "CoreFinderModel" = some m.cls := hown
  have hl : lv_has ls 5 [(0, .ref (ad 0)), (1, .int (nI a)), (2, .int (nI b))] := hl
  refine lv_aload_n hx hb dX1_follows_0 rfl (lv_at hl 0 rfl) ?_
  refine lv_iload_n hx hb dX1_follows_1 rfl (lv_at hl 1 rfl) ?_
  refine pi_callV (ws0 := (wM ad cA P y n f)) (rest := []) ⟨hx, hb, hml, hown, hts⟩ [.int (nI a)] (mX1_letters l dC dI ad cA P y n f (nI a)) (lw_V q187 q189 qs11 q20 q190) hdX1_letters ⟨Nat.le_of_ble_eq_true rfl, Nat.le_of_ble_eq_true rfl⟩ ⟨rfl, rfl⟩ hK hP (q0 := 0) (ci := 1) rfl rfl rfl hl.1 rfl (Nat.le_of_ble_eq_true rfl) dX1_follows_2 ⟨Nat.zero_le _, Nat.zero_le _⟩ hP hS (fun H locs hP hS => ?_)
  have join_22 : ∀ (b0 : Bool), (b0 = (setB (nI a) && setB (nI b))) → ∀ (H : Heap) (locs : List Loc), va_P (dC, dI) vwCl (wM ad cA P y n f) H → va_S (fun _ => False) s.heap H locs → ∀ (ls : Array Slot), lv_has ls 5 [(0, .ref (ad 0)), (1, .int (nI a)), (2, .int (nI b)), (3, .int (bI b0))] → W p l e ({ frames := 2, cells := 0, slots := 0, locals := 47 } : Room) s m ([.ref (ad 0), .int (nI a), .int (nI b)] : List Value).toArray below meth c H locs 0 0 (QP below (bI (flwM y n P a b)) ([.ref (ad 0), .int (nI a), .int (nI b)] : List Value).toArray s) (F0 m 22 ls []) := by
    intro b0 hb0 H locs hP hS ls hl
    refine lv_iconst (v := (nI 0)) hx hb dX1_follows_22 (by decide) ?_
    refine lv_istore (lv' := [(4, .int (nI 0)), (0, .ref (ad 0)), (1, .int (nI a)), (2, .int (nI b)), (3, .int (bI b0))]) hx hb dX1_follows_23 hl (by decide) rfl (fun ls hl => ?_)
    have loop_25 : ∀ (n_ : Nat) (bb : Bool) (v : Nat), (v ≤ 16) → (bb = (b0 && allN (fun v => !aB y n (127 &&& P) v || hB2 a b v) v)) → 16 - v < n_ → ∀ (H : Heap) (locs : List Loc), va_P (dC, dI) vwCl (wM ad cA P y n f) H → va_S (fun _ => False) s.heap H locs → ∀ (ls : Array Slot), lv_has ls 5 [(0, .ref (ad 0)), (1, .int (nI a)), (2, .int (nI b)), (3, .int (bI bb)), (4, .int (nI v))] → W p l e ({ frames := 2, cells := 0, slots := 0, locals := 47 } : Room) s m ([.ref (ad 0), .int (nI a), .int (nI b)] : List Value).toArray below meth c H locs 0 0 (QP below (bI (flwM y n P a b)) ([.ref (ad 0), .int (nI a), .int (nI b)] : List Value).toArray s) (F0 m 25 ls []) := by
      intro n_
      induction n_ with
      | zero =>
        intro bb v hv hb1 hlt
        exact absurd hlt (Nat.not_lt_zero _)
      | succ n_ ih_25 =>
        intro bb v hv hb1 hlt_25 H locs hP hS ls hl
        refine lv_iload hx hb dX1_follows_25 (lv_at hl 4 rfl) ?_
        refine lv_bipush (v := (nI 16)) hx hb dX1_follows_27 (by decide) ?_
        refine nv_cgeN hx hb 70 (by first | omega | exact nd_lt (by omega) | exact Nat.lt_of_le_of_lt Nat.and_le_left (by omega) | exact Nat.lt_of_le_of_lt Nat.and_le_right (by omega)) (by first | omega | exact nd_lt (by omega) | exact Nat.lt_of_le_of_lt Nat.and_le_left (by omega) | exact Nat.lt_of_le_of_lt Nat.and_le_right (by omega)) dX1_follows_29 (by decide) (fun c_29 => ?_) (fun c_29 => ?_)
        · skip
          refine lv_iload_n hx hb dX1_follows_70 rfl (lv_at hl 3 rfl) ?_
          exact pi_retz hx hb hr hlocks hS (bI_01 _) (by rw [hb1, hb0, show v = 16 by omega]; rfl) dX1_follows_71
        · skip
          refine lv_iload_n hx hb dX1_follows_32 rfl (lv_at hl 3 rfl) ?_
          refine nv_eqB hx hb 62 dX1_follows_33 (by decide) (fun c_33 => ?_) (fun c_33 => ?_)
          · skip
            refine lv_iconst (v := (nI 0)) hx hb dX1_follows_62 (by decide) ?_
            refine lv_istore_n (lv' := [(3, .int (nI 0)), (0, .ref (ad 0)), (1, .int (nI a)), (2, .int (nI b)), (4, .int (nI v))]) hx hb dX1_follows_63 rfl hl (by decide) rfl (fun ls hl => ?_)
            refine lv_iinc (v := (nI (v + 1))) (lv' := [(4, .int (nI (v + 1))), (3, .int (nI 0)), (0, .ref (ad 0)), (1, .int (nI a)), (2, .int (nI b))]) hx hb dX1_follows_64 hl (k := 4) rfl (nI_1 v) (by decide) rfl (fun ls hl => ?_)
            refine lv_goto (tgt := 25) hx hb dX1_follows_67 (by decide) ?_
            exact ih_25 false (v + 1) (by omega) (all_f hb1 c_33) (by omega) _ _ hP hS ls (lv_sub hl [2, 3, 4, 1, 0] rfl)
          · skip
            refine lv_aload_n hx hb dX1_follows_36 rfl (lv_at hl 0 rfl) ?_
            refine lv_bipush (v := (nI 127)) hx hb dX1_follows_37 (by decide) ?_
            refine lv_iload hx hb dX1_follows_39 (lv_at hl 4 rfl) ?_
            refine pi_callV (ws0 := (wM ad cA P y n f)) (rest := []) ⟨hx, hb, hml, hown, hts⟩ [.int (nI 127), .int (nI v)] (mX1_allHold l dC dI ad cA P y n f 127 v hn c_29) (lw_V q207 q209 qs12 q20 q210) hdX1_allHold ⟨Nat.le_of_ble_eq_true rfl, Nat.le_of_ble_eq_true rfl⟩ ⟨rfl, rfl⟩ hK hP (q0 := 0) (ci := 1) rfl rfl rfl hl.1 rfl (Nat.le_of_ble_eq_true rfl) dX1_follows_41 ⟨Nat.zero_le _, Nat.zero_le _⟩ hP hS (fun H locs hP hS => ?_)
            refine nv_eqB hx hb 58 dX1_follows_44 (by decide) (fun c_44 => ?_) (fun c_44 => ?_)
            · skip
              refine lv_iconst (v := (nI 1)) hx hb dX1_follows_58 (by decide) ?_
              refine lv_goto (tgt := 63) hx hb dX1_follows_59 (by decide) ?_
              refine lv_istore_n (lv' := [(3, .int (nI 1)), (0, .ref (ad 0)), (1, .int (nI a)), (2, .int (nI b)), (4, .int (nI v))]) hx hb dX1_follows_63 rfl hl (by decide) rfl (fun ls hl => ?_)
              refine lv_iinc (v := (nI (v + 1))) (lv' := [(4, .int (nI (v + 1))), (3, .int (nI 1)), (0, .ref (ad 0)), (1, .int (nI a)), (2, .int (nI b))]) hx hb dX1_follows_64 hl (k := 4) rfl (nI_1 v) (by decide) rfl (fun ls hl => ?_)
              refine lv_goto (tgt := 25) hx hb dX1_follows_67 (by decide) ?_
              exact ih_25 true (v + 1) (by omega) (all_t hb1 c_33 (by simp [c_44])) (by omega) _ _ hP hS ls (lv_sub hl [2, 3, 4, 1, 0] rfl)
            · skip
              refine lv_aload_n hx hb dX1_follows_47 rfl (lv_at hl 0 rfl) ?_
              refine lv_iload_n hx hb dX1_follows_48 rfl (lv_at hl 1 rfl) ?_
              refine lv_iload_n hx hb dX1_follows_49 rfl (lv_at hl 2 rfl) ?_
              refine lv_iload hx hb dX1_follows_50 (lv_at hl 4 rfl) ?_
              refine pi_callV (ws0 := (wM ad cA P y n f)) (rest := []) ⟨hx, hb, hml, hown, hts⟩ [.int (nI a), .int (nI b), .int (nI v)] (mX1_holds l dC dI ad cA P y n f a b v hb2 c_29) (lw_V q211 q213 qs13 q20 q214) hdX1_holds ⟨Nat.le_of_ble_eq_true rfl, Nat.le_of_ble_eq_true rfl⟩ ⟨rfl, rfl⟩ hK hP (q0 := 0) (ci := 1) rfl rfl rfl hl.1 rfl (Nat.le_of_ble_eq_true rfl) dX1_follows_52 ⟨Nat.zero_le _, Nat.zero_le _⟩ hP hS (fun H locs hP hS => ?_)
              refine nv_eqB hx hb 62 dX1_follows_55 (by decide) (fun c_55 => ?_) (fun c_55 => ?_)
              · skip
                refine lv_iconst (v := (nI 0)) hx hb dX1_follows_62 (by decide) ?_
                refine lv_istore_n (lv' := [(3, .int (nI 0)), (0, .ref (ad 0)), (1, .int (nI a)), (2, .int (nI b)), (4, .int (nI v))]) hx hb dX1_follows_63 rfl hl (by decide) rfl (fun ls hl => ?_)
                refine lv_iinc (v := (nI (v + 1))) (lv' := [(4, .int (nI (v + 1))), (3, .int (nI 0)), (0, .ref (ad 0)), (1, .int (nI a)), (2, .int (nI b))]) hx hb dX1_follows_64 hl (k := 4) rfl (nI_1 v) (by decide) rfl (fun ls hl => ?_)
                refine lv_goto (tgt := 25) hx hb dX1_follows_67 (by decide) ?_
                exact ih_25 false (v + 1) (by omega) (all_g (by simp [c_44, c_55])) (by omega) _ _ hP hS ls (lv_sub hl [2, 3, 4, 1, 0] rfl)
              · skip
                refine lv_iconst (v := (nI 1)) hx hb dX1_follows_58 (by decide) ?_
                refine lv_goto (tgt := 63) hx hb dX1_follows_59 (by decide) ?_
                refine lv_istore_n (lv' := [(3, .int (nI 1)), (0, .ref (ad 0)), (1, .int (nI a)), (2, .int (nI b)), (4, .int (nI v))]) hx hb dX1_follows_63 rfl hl (by decide) rfl (fun ls hl => ?_)
                refine lv_iinc (v := (nI (v + 1))) (lv' := [(4, .int (nI (v + 1))), (3, .int (nI 1)), (0, .ref (ad 0)), (1, .int (nI a)), (2, .int (nI b))]) hx hb dX1_follows_64 hl (k := 4) rfl (nI_1 v) (by decide) rfl (fun ls hl => ?_)
                refine lv_goto (tgt := 25) hx hb dX1_follows_67 (by decide) ?_
                exact ih_25 true (v + 1) (by omega) (all_t hb1 c_33 (by simp [c_55])) (by omega) _ _ hP hS ls (lv_sub hl [2, 3, 4, 1, 0] rfl)
    exact loop_25 (16 - 0 + 1) b0 0 (by omega) (by simp [allN]) (Nat.lt_succ_self _) _ _ hP hS ls (lv_sub hl [1, 2, 3, 4, 0] rfl)
  refine nv_eqB hx hb 20 dX1_follows_5 (by decide) (fun c_5 => ?_) (fun c_5 => ?_)
  · skip
    refine lv_iconst (v := (nI 0)) hx hb dX1_follows_20 (by decide) ?_
    refine lv_istore_n (lv' := [(3, .int (nI 0)), (0, .ref (ad 0)), (1, .int (nI a)), (2, .int (nI b))]) hx hb dX1_follows_21 rfl hl (by decide) rfl (fun ls hl => ?_)
    exact join_22 false (by simp [c_5]) _ _ hP hS ls (lv_sub hl [1, 2, 3, 0] rfl)
  · skip
    refine lv_aload_n hx hb dX1_follows_8 rfl (lv_at hl 0 rfl) ?_
    refine lv_iload_n hx hb dX1_follows_9 rfl (lv_at hl 2 rfl) ?_
    refine pi_callV (ws0 := (wM ad cA P y n f)) (rest := []) ⟨hx, hb, hml, hown, hts⟩ [.int (nI b)] (mX1_letters l dC dI ad cA P y n f (nI b)) (lw_V q187 q189 qs11 q20 q190) hdX1_letters ⟨Nat.le_of_ble_eq_true rfl, Nat.le_of_ble_eq_true rfl⟩ ⟨rfl, rfl⟩ hK hP (q0 := 0) (ci := 1) rfl rfl rfl hl.1 rfl (Nat.le_of_ble_eq_true rfl) dX1_follows_10 ⟨Nat.zero_le _, Nat.zero_le _⟩ hP hS (fun H locs hP hS => ?_)
    refine nv_eqB hx hb 20 dX1_follows_13 (by decide) (fun c_13 => ?_) (fun c_13 => ?_)
    · skip
      refine lv_iconst (v := (nI 0)) hx hb dX1_follows_20 (by decide) ?_
      refine lv_istore_n (lv' := [(3, .int (nI 0)), (0, .ref (ad 0)), (1, .int (nI a)), (2, .int (nI b))]) hx hb dX1_follows_21 rfl hl (by decide) rfl (fun ls hl => ?_)
      exact join_22 false (by simp [c_13]) _ _ hP hS ls (lv_sub hl [1, 2, 3, 0] rfl)
    · skip
      refine lv_iconst (v := (nI 1)) hx hb dX1_follows_16 (by decide) ?_
      refine lv_goto (tgt := 21) hx hb dX1_follows_17 (by decide) ?_
      refine lv_istore_n (lv' := [(3, .int (nI 1)), (0, .ref (ad 0)), (1, .int (nI a)), (2, .int (nI b))]) hx hb dX1_follows_21 rfl hl (by decide) rfl (fun ls hl => ?_)
      exact join_22 true (by simp [c_5, c_13]) _ _ hP hS ls (lv_sub hl [1, 2, 3, 0] rfl)
end
section
set_option maxRecDepth 100000
theorem th0 : (fun j => bI (Nat.testBit 0 j)) = fun _ => (0 : Int32) := by
  funext j
  rw [Nat.zero_testBit]
  rfl
set_option maxHeartbeats 4000000 in
set_option maxRecDepth 100000 in
theorem mX0_init (l : Launch) (dC : Nat → ClassId) (dI : Nat → Nat → Nat) (h0 sz : Nat) : Met l yX0_init (ws_ yX0_init cX0_init 1 none) ({ frames := 1, cells := 5, slots := 22, locals := 12 } : Room) (va_Pc [.ref h0] (fun U => U.heap.size = sz ∧ va_P (dC, dI) vwCl [(h0, .inr (0, [.int 0, .null, .null, .int 0, .null, .null, .null]))] U.heap ∧ va_K (dC, dI) vwCl [] U ∧ va_D (fun _ => True) [(h0, .inr (0, [.int 0, .null, .null, .int 0, .null, .null, .null]))])) (va_Qv (fun u : (Nat → Nat) × (Nat → ClassId) => u.1 0 = h0) (fun u t => va_P (dC, dI) vwCl (wX u.1 u.2 0 (fun _ => 0) (fun _ => 0) (bI false) (fun _ => 0) (fun _ => 0) (fun _ => 0)) t.heap ∧ va_K (dC, dI) vwCl (tX u.2) t ∧ va_D (va_A [(h0, .inr (0, [.int 0, .null, .null, .int 0, .null, .null, .null]))] sz) (wX u.1 u.2 0 (fun _ => 0) (fun _ => 0) (bI false) (fun _ => 0) (fun _ => 0) (fun _ => 0))) (va_A [(h0, .inr (0, [.int 0, .null, .null, .int 0, .null, .null, .null]))] sz)) 5 22 (va_A [(h0, .inr (0, [.int 0, .null, .null, .int 0, .null, .null, .null]))] sz) := by
  refine Met.ofW (cc := cX0_init) (maxL := 1) (ret := none) (by decide) rfl ?_
  intro p e s m args below meth c s₁ B hml hv
  obtain ⟨rfl, hsz, hP, hK, hD0⟩ := hv
  have hx := B.exec
  have hb := B.bytes
  have hr := B.returns
  have hts := atoms_spec (ws := ws_ yX0_init cX0_init 1 none) B.pre
  have hts : ∀ w ∈ lw_all, w.before _ s = true := fun w h => hts w (List.mem_cons_of_mem _ h)
  have hown : s.vm.findClass "CoreFinder" = some m.cls := findClass_of_methodNamed B.named
  have hlocks := B.notSynchronized
  have hin : meth.name = "<init>" := (name_of_methodNamed B.named B.method).1
  subst hsz
  have hD := hD0.self (sz := s.heap.size)
  generalize hAe : va_A [(h0, .inr (0, [.int 0, .null, .null, .int 0, .null, .null, .null]))] s.heap.size = A at hD ⊢
  have hA : ∀ q : Nat, s.heap.size ≤ q → A q := fun q h => by rw [← hAe]; exact Or.inr h
  have hS : va_S A s.heap s.heap [] := va_S.rf
  have hl := lv_entry ([.ref h0]) (n := 1) (Nat.le_of_ble_eq_true rfl)
  rw [lg_entry_eq]
  generalize (lg_sl ([.ref h0]) ++ List.replicate (1 - (lg_sl ([.ref h0])).length) Slot.unset).toArray = ls at hl ⊢
  have hl : lv_has ls 1 [(0, .ref h0)] := hl
  refine lv_aload_n hx hb dX0_init_0 rfl (lv_at hl 0 rfl) ?_
  refine W.objInit hx hb hown (hts _ q26) (hts _ q27) (hts _ q28) rfl (by rw [hml]; exact hl.1) rfl dX0_init_1 (Nat.le_of_ble_eq_true rfl) (Nat.le_of_ble_eq_true rfl) ?_
  refine W.eq (g2 := F0 m 4 ls []) rfl ?_
  refine lv_aload_n hx hb dX0_init_4 rfl (lv_at hl 0 rfl) ?_
  refine lv_bipush (v := 8) hx hb dX0_init_5 (by decide) ?_
  refine va_newa (N' := 8) (a0 := (8, .inl (fun _ => nI 0))) (ty := .byte) (atype := .byte) hx hb (hts _ q51) rfl hK hP hD hS hA (fun _ => rfl) (by decide) (by decide) (by decide) (Nat.le_of_ble_eq_true rfl) (Nat.le_of_ble_eq_true rfl) dX0_init_7 (fun q1 c1 H hK hP hD hS => ?_)
  have hK : va_K (dC, dI) vwCl [(c1, .byte)] s := hK
  have hP : va_P (dC, dI) vwCl [(h0, .inr (0, [.int 0, .null, .null, .int 0, .null, .null, .null])), (q1, .inl (c1, 8, .inl (fun _ => nI 0)))] H := hP
  have hD : va_D A [(h0, .inr (0, [.int 0, .null, .null, .int 0, .null, .null, .null])), (q1, .inl (c1, 8, .inl (fun _ => nI 0)))] := hD
  refine W.widen (k := 1) (n := 8) (Nat.le_refl _) (Nat.le_refl _) ?_
  refine va_putF (D := (dC, dI)) (ci := 0) (v := .ref q1) (ty := .array .byte) (C := RX0) (T := TX0) (N := 7) hx hb hts in_X0 tyX0 tyX0_ok nmX0 hown hK hP hD hS 0 rfl rfl 1 (by decide) (hts _ q30) (fun _ h9 => h9) rfl hin rfl (by decide +kernel) rfl rfl (Nat.le_of_ble_eq_true rfl) dX0_init_9 (fun H locs hP hD hS => ?_)
  have hP : va_P (dC, dI) vwCl [(h0, .inr (0, [.int 0, .ref q1, .null, .int 0, .null, .null, .null])), (q1, .inl (c1, 8, .inl (fun _ => nI 0)))] H := hP
  have hD : va_D A [(h0, .inr (0, [.int 0, .ref q1, .null, .int 0, .null, .null, .null])), (q1, .inl (c1, 8, .inl (fun _ => nI 0)))] := hD
  refine lv_aload_n hx hb dX0_init_12 rfl (lv_at hl 0 rfl) ?_
  refine lv_bipush (v := 8) hx hb dX0_init_13 (by decide) ?_
  refine va_newa (N' := 8) (a0 := (8, .inl (fun _ => nI 0))) (ty := .byte) (atype := .byte) hx hb (hts _ q51) rfl hK hP hD hS hA (fun _ => rfl) (by decide) (by decide) (by decide) (Nat.le_of_ble_eq_true rfl) (Nat.le_of_ble_eq_true rfl) dX0_init_15 (fun q2 c2 H hK hP hD hS => ?_)
  have hK : va_K (dC, dI) vwCl [(c1, .byte), (c2, .byte)] s := hK
  have hP : va_P (dC, dI) vwCl [(h0, .inr (0, [.int 0, .ref q1, .null, .int 0, .null, .null, .null])), (q1, .inl (c1, 8, .inl (fun _ => nI 0))), (q2, .inl (c2, 8, .inl (fun _ => nI 0)))] H := hP
  have hD : va_D A [(h0, .inr (0, [.int 0, .ref q1, .null, .int 0, .null, .null, .null])), (q1, .inl (c1, 8, .inl (fun _ => nI 0))), (q2, .inl (c2, 8, .inl (fun _ => nI 0)))] := hD
  refine W.widen (k := 2) (n := 16) (Nat.le_refl _) (Nat.le_refl _) ?_
  refine va_putF (D := (dC, dI)) (ci := 0) (v := .ref q2) (ty := .array .byte) (C := RX0) (T := TX0) (N := 7) hx hb hts in_X0 tyX0 tyX0_ok nmX0 hown hK hP hD hS 0 rfl rfl 2 (by decide) (hts _ q31) (fun _ h9 => h9) rfl hin rfl (by decide +kernel) rfl rfl (Nat.le_of_ble_eq_true rfl) dX0_init_17 (fun H locs hP hD hS => ?_)
  have hP : va_P (dC, dI) vwCl [(h0, .inr (0, [.int 0, .ref q1, .ref q2, .int 0, .null, .null, .null])), (q1, .inl (c1, 8, .inl (fun _ => nI 0))), (q2, .inl (c2, 8, .inl (fun _ => nI 0)))] H := hP
  have hD : va_D A [(h0, .inr (0, [.int 0, .ref q1, .ref q2, .int 0, .null, .null, .null])), (q1, .inl (c1, 8, .inl (fun _ => nI 0))), (q2, .inl (c2, 8, .inl (fun _ => nI 0)))] := hD
  refine lv_aload_n hx hb dX0_init_20 rfl (lv_at hl 0 rfl) ?_
  refine lv_iconst (v := 2) hx hb dX0_init_21 (by decide) ?_
  refine va_newa (N' := 2) (a0 := (2, .inr (.inl (fun _ => 0)))) (ty := .long) (atype := .long) hx hb (hts _ q52) rfl hK hP hD hS hA (fun _ => rfl) (by decide) (by decide) (by decide) (Nat.le_of_ble_eq_true rfl) (Nat.le_of_ble_eq_true rfl) dX0_init_22 (fun q3 c3 H hK hP hD hS => ?_)
  have hK : va_K (dC, dI) vwCl [(c1, .byte), (c2, .byte), (c3, .long)] s := hK
  have hP : va_P (dC, dI) vwCl [(h0, .inr (0, [.int 0, .ref q1, .ref q2, .int 0, .null, .null, .null])), (q1, .inl (c1, 8, .inl (fun _ => nI 0))), (q2, .inl (c2, 8, .inl (fun _ => nI 0))), (q3, .inl (c3, 2, .inr (.inl (fun _ => 0))))] H := hP
  have hD : va_D A [(h0, .inr (0, [.int 0, .ref q1, .ref q2, .int 0, .null, .null, .null])), (q1, .inl (c1, 8, .inl (fun _ => nI 0))), (q2, .inl (c2, 8, .inl (fun _ => nI 0))), (q3, .inl (c3, 2, .inr (.inl (fun _ => 0))))] := hD
  refine W.widen (k := 3) (n := 18) (Nat.le_refl _) (Nat.le_refl _) ?_
  refine va_putF (D := (dC, dI)) (ci := 0) (v := .ref q3) (ty := .array .long) (C := RX0) (T := TX0) (N := 7) hx hb hts in_X0 tyX0 tyX0_ok nmX0 hown hK hP hD hS 0 rfl rfl 4 (by decide) (hts _ q33) (fun _ h9 => h9) rfl hin rfl (by decide +kernel) rfl rfl (Nat.le_of_ble_eq_true rfl) dX0_init_24 (fun H locs hP hD hS => ?_)
  have hP : va_P (dC, dI) vwCl [(h0, .inr (0, [.int 0, .ref q1, .ref q2, .int 0, .ref q3, .null, .null])), (q1, .inl (c1, 8, .inl (fun _ => nI 0))), (q2, .inl (c2, 8, .inl (fun _ => nI 0))), (q3, .inl (c3, 2, .inr (.inl (fun _ => 0))))] H := hP
  have hD : va_D A [(h0, .inr (0, [.int 0, .ref q1, .ref q2, .int 0, .ref q3, .null, .null])), (q1, .inl (c1, 8, .inl (fun _ => nI 0))), (q2, .inl (c2, 8, .inl (fun _ => nI 0))), (q3, .inl (c3, 2, .inr (.inl (fun _ => 0))))] := hD
  refine lv_aload_n hx hb dX0_init_27 rfl (lv_at hl 0 rfl) ?_
  refine lv_iconst (v := 2) hx hb dX0_init_28 (by decide) ?_
  refine va_newa (N' := 2) (a0 := (2, .inr (.inl (fun _ => 0)))) (ty := .long) (atype := .long) hx hb (hts _ q52) rfl hK hP hD hS hA (fun _ => rfl) (by decide) (by decide) (by decide) (Nat.le_of_ble_eq_true rfl) (Nat.le_of_ble_eq_true rfl) dX0_init_29 (fun q4 c4 H hK hP hD hS => ?_)
  have hK : va_K (dC, dI) vwCl [(c1, .byte), (c2, .byte), (c3, .long), (c4, .long)] s := hK
  have hP : va_P (dC, dI) vwCl [(h0, .inr (0, [.int 0, .ref q1, .ref q2, .int 0, .ref q3, .null, .null])), (q1, .inl (c1, 8, .inl (fun _ => nI 0))), (q2, .inl (c2, 8, .inl (fun _ => nI 0))), (q3, .inl (c3, 2, .inr (.inl (fun _ => 0)))), (q4, .inl (c4, 2, .inr (.inl (fun _ => 0))))] H := hP
  have hD : va_D A [(h0, .inr (0, [.int 0, .ref q1, .ref q2, .int 0, .ref q3, .null, .null])), (q1, .inl (c1, 8, .inl (fun _ => nI 0))), (q2, .inl (c2, 8, .inl (fun _ => nI 0))), (q3, .inl (c3, 2, .inr (.inl (fun _ => 0)))), (q4, .inl (c4, 2, .inr (.inl (fun _ => 0))))] := hD
  refine W.widen (k := 4) (n := 20) (Nat.le_refl _) (Nat.le_refl _) ?_
  refine va_putF (D := (dC, dI)) (ci := 0) (v := .ref q4) (ty := .array .long) (C := RX0) (T := TX0) (N := 7) hx hb hts in_X0 tyX0 tyX0_ok nmX0 hown hK hP hD hS 0 rfl rfl 5 (by decide) (hts _ q34) (fun _ h9 => h9) rfl hin rfl (by decide +kernel) rfl rfl (Nat.le_of_ble_eq_true rfl) dX0_init_31 (fun H locs hP hD hS => ?_)
  have hP : va_P (dC, dI) vwCl [(h0, .inr (0, [.int 0, .ref q1, .ref q2, .int 0, .ref q3, .ref q4, .null])), (q1, .inl (c1, 8, .inl (fun _ => nI 0))), (q2, .inl (c2, 8, .inl (fun _ => nI 0))), (q3, .inl (c3, 2, .inr (.inl (fun _ => 0)))), (q4, .inl (c4, 2, .inr (.inl (fun _ => 0))))] H := hP
  have hD : va_D A [(h0, .inr (0, [.int 0, .ref q1, .ref q2, .int 0, .ref q3, .ref q4, .null])), (q1, .inl (c1, 8, .inl (fun _ => nI 0))), (q2, .inl (c2, 8, .inl (fun _ => nI 0))), (q3, .inl (c3, 2, .inr (.inl (fun _ => 0)))), (q4, .inl (c4, 2, .inr (.inl (fun _ => 0))))] := hD
  refine lv_aload_n hx hb dX0_init_34 rfl (lv_at hl 0 rfl) ?_
  refine lv_iconst (v := 2) hx hb dX0_init_35 (by decide) ?_
  refine va_newa (N' := 2) (a0 := (2, .inr (.inl (fun _ => 0)))) (ty := .long) (atype := .long) hx hb (hts _ q52) rfl hK hP hD hS hA (fun _ => rfl) (by decide) (by decide) (by decide) (Nat.le_of_ble_eq_true rfl) (Nat.le_of_ble_eq_true rfl) dX0_init_36 (fun q5 c5 H hK hP hD hS => ?_)
  have hK : va_K (dC, dI) vwCl [(c1, .byte), (c2, .byte), (c3, .long), (c4, .long), (c5, .long)] s := hK
  have hP : va_P (dC, dI) vwCl [(h0, .inr (0, [.int 0, .ref q1, .ref q2, .int 0, .ref q3, .ref q4, .null])), (q1, .inl (c1, 8, .inl (fun _ => nI 0))), (q2, .inl (c2, 8, .inl (fun _ => nI 0))), (q3, .inl (c3, 2, .inr (.inl (fun _ => 0)))), (q4, .inl (c4, 2, .inr (.inl (fun _ => 0)))), (q5, .inl (c5, 2, .inr (.inl (fun _ => 0))))] H := hP
  have hD : va_D A [(h0, .inr (0, [.int 0, .ref q1, .ref q2, .int 0, .ref q3, .ref q4, .null])), (q1, .inl (c1, 8, .inl (fun _ => nI 0))), (q2, .inl (c2, 8, .inl (fun _ => nI 0))), (q3, .inl (c3, 2, .inr (.inl (fun _ => 0)))), (q4, .inl (c4, 2, .inr (.inl (fun _ => 0)))), (q5, .inl (c5, 2, .inr (.inl (fun _ => 0))))] := hD
  refine W.widen (k := 5) (n := 22) (Nat.le_refl _) (Nat.le_refl _) ?_
  refine va_putF (D := (dC, dI)) (ci := 0) (v := .ref q5) (ty := .array .long) (C := RX0) (T := TX0) (N := 7) hx hb hts in_X0 tyX0 tyX0_ok nmX0 hown hK hP hD hS 0 rfl rfl 6 (by decide) (hts _ q35) (fun _ h9 => h9) rfl hin rfl (by decide +kernel) rfl rfl (Nat.le_of_ble_eq_true rfl) dX0_init_38 (fun H locs hP hD hS => ?_)
  have hP : va_P (dC, dI) vwCl [(h0, .inr (0, [.int 0, .ref q1, .ref q2, .int 0, .ref q3, .ref q4, .ref q5])), (q1, .inl (c1, 8, .inl (fun _ => nI 0))), (q2, .inl (c2, 8, .inl (fun _ => nI 0))), (q3, .inl (c3, 2, .inr (.inl (fun _ => 0)))), (q4, .inl (c4, 2, .inr (.inl (fun _ => 0)))), (q5, .inl (c5, 2, .inr (.inl (fun _ => 0))))] H := hP
  have hD : va_D A [(h0, .inr (0, [.int 0, .ref q1, .ref q2, .int 0, .ref q3, .ref q4, .ref q5])), (q1, .inl (c1, 8, .inl (fun _ => nI 0))), (q2, .inl (c2, 8, .inl (fun _ => nI 0))), (q3, .inl (c3, 2, .inr (.inl (fun _ => 0)))), (q4, .inl (c4, 2, .inr (.inl (fun _ => 0)))), (q5, .inl (c5, 2, .inr (.inl (fun _ => 0))))] := hD
  exact W.vret hx hb hr (fun t ht hW => ⟨⟨(fun i => match i with | 0 => h0 | 1 => q1 | 2 => q2 | 3 => q3 | 4 => q4 | _ => q5, fun i => match i with | 1 => c1 | 2 => c2 | 3 => c3 | 4 => c4 | _ => c5), rfl, rfl, by rw [ht]; exact hP, va_K.moved hW.alike hK, hD⟩, hS.F ht⟩) hS.2.2 dX0_init_41
set_option maxHeartbeats 4000000 in
set_option maxRecDepth 100000 in
theorem mX1_init (l : Launch) (dC : Nat → ClassId) (dI : Nat → Nat → Nat) (h0 sz : Nat) : Met l yX1_init (ws_ yX1_init cX1_init 1 none) ({ frames := 1, cells := 4, slots := 149, locals := 12 } : Room) (va_Pc [.ref h0] (fun U => U.heap.size = sz ∧ va_P (dC, dI) vwCl [(h0, .inr (1, [.null, .null, .null, .null]))] U.heap ∧ va_K (dC, dI) vwCl [] U ∧ va_D (fun _ => True) [(h0, .inr (1, [.null, .null, .null, .null]))])) (va_Qv (fun u : (Nat → Nat) × (Nat → ClassId) => u.1 0 = h0) (fun u t => va_P (dC, dI) vwCl (wM u.1 u.2 0 (fun _ => 0) (fun _ => 0) (fun _ => 0)) t.heap ∧ va_K (dC, dI) vwCl (tM u.2) t ∧ va_D (va_A [(h0, .inr (1, [.null, .null, .null, .null]))] sz) (wM u.1 u.2 0 (fun _ => 0) (fun _ => 0) (fun _ => 0))) (va_A [(h0, .inr (1, [.null, .null, .null, .null]))] sz)) 4 149 (va_A [(h0, .inr (1, [.null, .null, .null, .null]))] sz) := by
  refine Met.ofW (cc := cX1_init) (maxL := 1) (ret := none) (by decide) rfl ?_
  intro p e s m args below meth c s₁ B hml hv
  obtain ⟨rfl, hsz, hP, hK, hD0⟩ := hv
  have hx := B.exec
  have hb := B.bytes
  have hr := B.returns
  have hts := atoms_spec (ws := ws_ yX1_init cX1_init 1 none) B.pre
  have hts : ∀ w ∈ lw_all, w.before _ s = true := fun w h => hts w (List.mem_cons_of_mem _ h)
  have hown : s.vm.findClass "CoreFinderModel" = some m.cls := findClass_of_methodNamed B.named
  have hlocks := B.notSynchronized
  have hin : meth.name = "<init>" := (name_of_methodNamed B.named B.method).1
  subst hsz
  have hD := hD0.self (sz := s.heap.size)
  generalize hAe : va_A [(h0, .inr (1, [.null, .null, .null, .null]))] s.heap.size = A at hD ⊢
  have hA : ∀ q : Nat, s.heap.size ≤ q → A q := fun q h => by rw [← hAe]; exact Or.inr h
  have hS : va_S A s.heap s.heap [] := va_S.rf
  have hl := lv_entry ([.ref h0]) (n := 1) (Nat.le_of_ble_eq_true rfl)
  rw [lg_entry_eq]
  generalize (lg_sl ([.ref h0]) ++ List.replicate (1 - (lg_sl ([.ref h0])).length) Slot.unset).toArray = ls at hl ⊢
  have hl : lv_has ls 1 [(0, .ref h0)] := hl
  refine lv_aload_n hx hb dX1_init_0 rfl (lv_at hl 0 rfl) ?_
  refine W.objInit hx hb hown (hts _ q167) (hts _ q27) (hts _ q28) rfl (by rw [hml]; exact hl.1) rfl dX1_init_1 (Nat.le_of_ble_eq_true rfl) (Nat.le_of_ble_eq_true rfl) ?_
  refine W.eq (g2 := F0 m 4 ls []) rfl ?_
  refine lv_aload_n hx hb dX1_init_4 rfl (lv_at hl 0 rfl) ?_
  refine lv_bipush (v := 7) hx hb dX1_init_5 (by decide) ?_
  refine va_newa (N' := 7) (a0 := (7, .inl (fun j => bI (Nat.testBit 0 j)))) (ty := .boolean) (atype := .boolean) hx hb (hts _ q181) rfl hK hP hD hS hA (fun cA => by rw [th0]; rfl) (by decide) (by decide) (by decide) (Nat.le_of_ble_eq_true rfl) (Nat.le_of_ble_eq_true rfl) dX1_init_7 (fun q1 c1 H hK hP hD hS => ?_)
  have hK : va_K (dC, dI) vwCl [(c1, .boolean)] s := hK
  have hP : va_P (dC, dI) vwCl [(h0, .inr (1, [.null, .null, .null, .null])), (q1, .inl (c1, 7, .inl (fun j => bI (Nat.testBit 0 j))))] H := hP
  have hD : va_D A [(h0, .inr (1, [.null, .null, .null, .null])), (q1, .inl (c1, 7, .inl (fun j => bI (Nat.testBit 0 j))))] := hD
  refine W.widen (k := 1) (n := 7) (Nat.le_refl _) (Nat.le_refl _) ?_
  refine va_put (D := (dC, dI)) (ci := 1) (v := .ref q1) (ty := .array .boolean) (C := RX1) (T := TX1) (N := 4) hx hb hts in_X1 tyX1 tyX1_ok nmX1 hown hK hP hD hS 0 rfl rfl 0 (by decide) (hts _ q168) (fun _ h9 => h9) rfl (by decide +kernel) rfl rfl (Nat.le_of_ble_eq_true rfl) dX1_init_9 (fun H locs hP hD hS => ?_)
  have hP : va_P (dC, dI) vwCl [(h0, .inr (1, [.ref q1, .null, .null, .null])), (q1, .inl (c1, 7, .inl (fun j => bI (Nat.testBit 0 j))))] H := hP
  have hD : va_D A [(h0, .inr (1, [.ref q1, .null, .null, .null])), (q1, .inl (c1, 7, .inl (fun j => bI (Nat.testBit 0 j))))] := hD
  refine lv_aload_n hx hb dX1_init_12 rfl (lv_at hl 0 rfl) ?_
  refine lv_bipush (v := 7) hx hb dX1_init_13 (by decide) ?_
  refine va_newa (N' := 7) (a0 := (7, .inl (fun _ => nI 0))) (ty := .int) (atype := .int) hx hb (hts _ q182) rfl hK hP hD hS hA (fun _ => rfl) (by decide) (by decide) (by decide) (Nat.le_of_ble_eq_true rfl) (Nat.le_of_ble_eq_true rfl) dX1_init_15 (fun q2 c2 H hK hP hD hS => ?_)
  have hK : va_K (dC, dI) vwCl [(c1, .boolean), (c2, .int)] s := hK
  have hP : va_P (dC, dI) vwCl [(h0, .inr (1, [.ref q1, .null, .null, .null])), (q1, .inl (c1, 7, .inl (fun j => bI (Nat.testBit 0 j)))), (q2, .inl (c2, 7, .inl (fun _ => nI 0)))] H := hP
  have hD : va_D A [(h0, .inr (1, [.ref q1, .null, .null, .null])), (q1, .inl (c1, 7, .inl (fun j => bI (Nat.testBit 0 j)))), (q2, .inl (c2, 7, .inl (fun _ => nI 0)))] := hD
  refine W.widen (k := 2) (n := 14) (Nat.le_refl _) (Nat.le_refl _) ?_
  refine va_put (D := (dC, dI)) (ci := 1) (v := .ref q2) (ty := .array .int) (C := RX1) (T := TX1) (N := 4) hx hb hts in_X1 tyX1 tyX1_ok nmX1 hown hK hP hD hS 0 rfl rfl 1 (by decide) (hts _ q169) (fun _ h9 => h9) rfl (by decide +kernel) rfl rfl (Nat.le_of_ble_eq_true rfl) dX1_init_17 (fun H locs hP hD hS => ?_)
  have hP : va_P (dC, dI) vwCl [(h0, .inr (1, [.ref q1, .ref q2, .null, .null])), (q1, .inl (c1, 7, .inl (fun j => bI (Nat.testBit 0 j)))), (q2, .inl (c2, 7, .inl (fun _ => nI 0)))] H := hP
  have hD : va_D A [(h0, .inr (1, [.ref q1, .ref q2, .null, .null])), (q1, .inl (c1, 7, .inl (fun j => bI (Nat.testBit 0 j)))), (q2, .inl (c2, 7, .inl (fun _ => nI 0)))] := hD
  refine lv_aload_n hx hb dX1_init_20 rfl (lv_at hl 0 rfl) ?_
  refine lv_bipush (v := 7) hx hb dX1_init_21 (by decide) ?_
  refine va_newa (N' := 7) (a0 := (7, .inl (fun _ => nI 0))) (ty := .int) (atype := .int) hx hb (hts _ q182) rfl hK hP hD hS hA (fun _ => rfl) (by decide) (by decide) (by decide) (Nat.le_of_ble_eq_true rfl) (Nat.le_of_ble_eq_true rfl) dX1_init_23 (fun q3 c3 H hK hP hD hS => ?_)
  have hK : va_K (dC, dI) vwCl [(c1, .boolean), (c2, .int), (c3, .int)] s := hK
  have hP : va_P (dC, dI) vwCl [(h0, .inr (1, [.ref q1, .ref q2, .null, .null])), (q1, .inl (c1, 7, .inl (fun j => bI (Nat.testBit 0 j)))), (q2, .inl (c2, 7, .inl (fun _ => nI 0))), (q3, .inl (c3, 7, .inl (fun _ => nI 0)))] H := hP
  have hD : va_D A [(h0, .inr (1, [.ref q1, .ref q2, .null, .null])), (q1, .inl (c1, 7, .inl (fun j => bI (Nat.testBit 0 j)))), (q2, .inl (c2, 7, .inl (fun _ => nI 0))), (q3, .inl (c3, 7, .inl (fun _ => nI 0)))] := hD
  refine W.widen (k := 3) (n := 21) (Nat.le_refl _) (Nat.le_refl _) ?_
  refine va_put (D := (dC, dI)) (ci := 1) (v := .ref q3) (ty := .array .int) (C := RX1) (T := TX1) (N := 4) hx hb hts in_X1 tyX1 tyX1_ok nmX1 hown hK hP hD hS 0 rfl rfl 2 (by decide) (hts _ q170) (fun _ h9 => h9) rfl (by decide +kernel) rfl rfl (Nat.le_of_ble_eq_true rfl) dX1_init_25 (fun H locs hP hD hS => ?_)
  have hP : va_P (dC, dI) vwCl [(h0, .inr (1, [.ref q1, .ref q2, .ref q3, .null])), (q1, .inl (c1, 7, .inl (fun j => bI (Nat.testBit 0 j)))), (q2, .inl (c2, 7, .inl (fun _ => nI 0))), (q3, .inl (c3, 7, .inl (fun _ => nI 0)))] H := hP
  have hD : va_D A [(h0, .inr (1, [.ref q1, .ref q2, .ref q3, .null])), (q1, .inl (c1, 7, .inl (fun j => bI (Nat.testBit 0 j)))), (q2, .inl (c2, 7, .inl (fun _ => nI 0))), (q3, .inl (c3, 7, .inl (fun _ => nI 0)))] := hD
  refine lv_aload_n hx hb dX1_init_28 rfl (lv_at hl 0 rfl) ?_
  refine lv_sipush (v := 128) hx hb dX1_init_29 (by decide) ?_
  refine va_newa (N' := 128) (a0 := (128, .inl (fun _ => 0))) (ty := .boolean) (atype := .boolean) hx hb (hts _ q181) rfl hK hP hD hS hA (fun _ => rfl) (by decide) (by decide) (by decide) (Nat.le_of_ble_eq_true rfl) (Nat.le_of_ble_eq_true rfl) dX1_init_32 (fun q4 c4 H hK hP hD hS => ?_)
  have hK : va_K (dC, dI) vwCl [(c1, .boolean), (c2, .int), (c3, .int), (c4, .boolean)] s := hK
  have hP : va_P (dC, dI) vwCl [(h0, .inr (1, [.ref q1, .ref q2, .ref q3, .null])), (q1, .inl (c1, 7, .inl (fun j => bI (Nat.testBit 0 j)))), (q2, .inl (c2, 7, .inl (fun _ => nI 0))), (q3, .inl (c3, 7, .inl (fun _ => nI 0))), (q4, .inl (c4, 128, .inl (fun _ => 0)))] H := hP
  have hD : va_D A [(h0, .inr (1, [.ref q1, .ref q2, .ref q3, .null])), (q1, .inl (c1, 7, .inl (fun j => bI (Nat.testBit 0 j)))), (q2, .inl (c2, 7, .inl (fun _ => nI 0))), (q3, .inl (c3, 7, .inl (fun _ => nI 0))), (q4, .inl (c4, 128, .inl (fun _ => 0)))] := hD
  refine W.widen (k := 4) (n := 149) (Nat.le_refl _) (Nat.le_refl _) ?_
  refine va_put (D := (dC, dI)) (ci := 1) (v := .ref q4) (ty := .array .boolean) (C := RX1) (T := TX1) (N := 4) hx hb hts in_X1 tyX1 tyX1_ok nmX1 hown hK hP hD hS 0 rfl rfl 3 (by decide) (hts _ q171) (fun _ h9 => h9) rfl (by decide +kernel) rfl rfl (Nat.le_of_ble_eq_true rfl) dX1_init_34 (fun H locs hP hD hS => ?_)
  have hP : va_P (dC, dI) vwCl [(h0, .inr (1, [.ref q1, .ref q2, .ref q3, .ref q4])), (q1, .inl (c1, 7, .inl (fun j => bI (Nat.testBit 0 j)))), (q2, .inl (c2, 7, .inl (fun _ => nI 0))), (q3, .inl (c3, 7, .inl (fun _ => nI 0))), (q4, .inl (c4, 128, .inl (fun _ => 0)))] H := hP
  have hD : va_D A [(h0, .inr (1, [.ref q1, .ref q2, .ref q3, .ref q4])), (q1, .inl (c1, 7, .inl (fun j => bI (Nat.testBit 0 j)))), (q2, .inl (c2, 7, .inl (fun _ => nI 0))), (q3, .inl (c3, 7, .inl (fun _ => nI 0))), (q4, .inl (c4, 128, .inl (fun _ => 0)))] := hD
  exact W.vret hx hb hr (fun t ht hW => ⟨⟨(fun i => match i with | 0 => h0 | 1 => q1 | 2 => q2 | 3 => q3 | _ => q4, fun i => match i with | 1 => c1 | 2 => c2 | 3 => c3 | _ => c4), rfl, rfl, by rw [ht]; exact hP, va_K.moved hW.alike hK, hD⟩, hS.F ht⟩) hS.2.2 dX1_init_37
end
section
/-! the plain law: both classes compute the same -/
set_option maxRecDepth 100000
theorem rep_of_max {y n : Nat → Nat} {P G : Nat} (hp : P < 128) (g2 : nd G P = 0) (g3 : cB y n G = true) (g4 : ∀ k, k < 7 → P.testBit k = true → G.testBit k = false → cB y n (G ||| 2 ^ k) = false) : repB y n P (nd P G) = true := by
  refine repB_iff.mpr ⟨nd_sub P G, by rw [nd_nd g2]; exact g3, fun k hk hs => ?_⟩
  obtain ⟨i, hi1, hi2⟩ := sub_lack hs (by omega)
  rw [tb_nd, Bool.and_eq_true, Bool.not_eq_true'] at hi1
  refine cB_antif (nd_zero.mpr (fun j hj => ?_)) (g4 i (lo7 hp hi1.1) hi1.1 hi1.2)
  rw [tb_or, Bool.or_eq_true] at hj
  rw [tb_nd]
  rcases hj with hj | hj
  · rw [nd_zero.mp g2 j hj]
    cases hkj : k.testBit j with
    | false => rfl
    | true =>
      have := nd_zero.mp hs j hkj
      rw [tb_nd, hj, Bool.not_true, Bool.and_false] at this
      cases this
  · rw [← of_decide_eq_true hj, hi1.1, hi2]; rfl
theorem on7_mono {a b : Nat} (h : nd a b = 0) (k : Nat) : on7 a k ≤ on7 b k := by
  induction k with
  | zero => exact Nat.le_refl _
  | succ k ih =>
    simp only [on7]
    have : (a.testBit k).toNat ≤ (b.testBit k).toNat := by
      cases ha : a.testBit k with
      | false => exact Nat.zero_le _
      | true => rw [nd_zero.mp h k ha]; exact Nat.le_refl _
    omega
theorem mtX_ge {P : Nat} {f : Nat → Bool} {n k : Nat} (hk : k < n) (h : f k = true) : on7 (nd P k) 7 ≤ mtX P f n := by
  induction n with
  | zero => omega
  | succ n ih =>
    by_cases e : k = n
    · subst e
      by_cases hl : mtX P f k < on7 (nd P k) 7
      · rw [← mtX_y h hl]; exact Nat.le_refl _
      · rw [← mtX_n (by omega)]; omega
    · have h1 := ih (by omega)
      cases hf : f n with
      | false => rw [← mtX_f hf]; exact h1
      | true =>
        by_cases hl : mtX P f n < on7 (nd P n) 7
        · rw [← mtX_y hf hl]; omega
        · rw [← mtX_n (by omega)]; exact h1
theorem mtX_at (P : Nat) (f : Nat → Bool) (n : Nat) : mtX P f n = 0 ∨ ∃ k, k < n ∧ f k = true ∧ mtX P f n = on7 (nd P k) 7 := by
  induction n with
  | zero => exact Or.inl rfl
  | succ n ih =>
    have keep : mtX P f n = mtX P f (n + 1) → mtX P f (n + 1) = 0 ∨ ∃ k, k < n + 1 ∧ f k = true ∧ mtX P f (n + 1) = on7 (nd P k) 7 := by
      intro e
      rw [← e]
      rcases ih with h | ⟨k, h1, h2, h3⟩
      · exact Or.inl h
      · exact Or.inr ⟨k, by omega, h2, h3⟩
    cases hf : f n with
    | false => exact keep (mtX_f hf)
    | true =>
      by_cases hl : mtX P f n < on7 (nd P n) 7
      · exact Or.inr ⟨n, by omega, hf, (mtX_y hf hl).symm⟩
      · exact keep (mtX_n (by omega))
theorem mtM_ge {f : Nat → Bool} {n k : Nat} (hk : k < n) (h : f k = true) : on7 k 7 ≤ mtM f n := by
  induction n with
  | zero => omega
  | succ n ih =>
    by_cases e : k = n
    · subst e
      by_cases hl : mtM f k < on7 k 7
      · rw [← mtM_y h hl]; exact Nat.le_refl _
      · rw [← mtM_n (by omega)]; omega
    · have h1 := ih (by omega)
      cases hf : f n with
      | false => rw [← mtM_f hf]; exact h1
      | true =>
        by_cases hl : mtM f n < on7 n 7
        · rw [← mtM_y hf hl]; omega
        · rw [← mtM_n (by omega)]; exact h1
theorem mtM_at (f : Nat → Bool) (n : Nat) : mtM f n = 0 ∨ ∃ k, k < n ∧ f k = true ∧ mtM f n = on7 k 7 := by
  induction n with
  | zero => exact Or.inl rfl
  | succ n ih =>
    have keep : mtM f n = mtM f (n + 1) → mtM f (n + 1) = 0 ∨ ∃ k, k < n + 1 ∧ f k = true ∧ mtM f (n + 1) = on7 k 7 := by
      intro e
      rw [← e]
      rcases ih with h | ⟨k, h1, h2, h3⟩
      · exact Or.inl h
      · exact Or.inr ⟨k, by omega, h2, h3⟩
    cases hf : f n with
    | false => exact keep (mtM_f hf)
    | true =>
      by_cases hl : mtM f n < on7 n 7
      · exact Or.inr ⟨n, by omega, hf, (mtM_y hf hl).symm⟩
      · exact keep (mtM_n (by omega))
theorem consB_iff {y n : Nat → Nat} {P t : Nat} : consB y n P t = true ↔ nd t P = 0 ∧ cB y n t = true := by
  simp [consB]
/-- every consistent set lies in a greatest one -/
theorem grown {y n : Nat → Nat} {P t : Nat} (hp : P < 128) (h : consB y n P t = true) : ∃ G, nd t G = 0 ∧ nd G P = 0 ∧ repB y n P (nd P G) = true := by
  obtain ⟨h1, h2⟩ := consB_iff.mp h
  have ht : t < 128 := Nat.lt_of_le_of_lt (sub_le h1) hp
  cases hu : undN (fun g => consB y n P g && (nd t g == 0)) 128 with
  | none =>
    have := undN_none.mp hu t ht
    simp [h, nd_refl] at this
  | some G =>
    obtain ⟨a, b, c⟩ := undN_some.mp hu
    simp only [Bool.and_eq_true, beq_iff_eq] at b
    obtain ⟨b1, b2⟩ := consB_iff.mp b.1
    refine ⟨G, b.2, b1, rep_of_max hp b1 b2 (fun k hk hpk hgk => ?_)⟩
    cases hc : cB y n (G ||| 2 ^ k) with
    | false => rfl
    | true =>
      exfalso
      have hor := grow_or (y := y) (n := n) b.2 b1 hpk
      have hgt : G < G ||| 2 ^ k := by
        have hle : G ≤ G ||| 2 ^ k := Nat.left_le_or
        have hne : G ≠ G ||| 2 ^ k := by
          intro z
          have := tb_or G k k
          rw [← z, hgk] at this
          simp at this
        omega
      have := c (G ||| 2 ^ k) hgt (or7 a hk)
      rw [consB_iff.mpr ⟨hor.2, hc⟩, hor.1] at this
      cases this
theorem mt_eq {y n : Nat → Nat} {P : Nat} (hp : P < 128) : mtX P (repB y n P) 128 = mtM (consB y n P) 128 := by
  apply Nat.le_antisymm
  · rcases mtX_at P (repB y n P) 128 with h | ⟨k, h1, h2, h3⟩
    · rw [h]; exact Nat.zero_le _
    · rw [h3]
      exact mtM_ge (nd_lt hp) (consB_iff.mpr ⟨nd_sub P k, (repB_iff.mp h2).2.1⟩)
  · rcases mtM_at (consB y n P) 128 with h | ⟨k, h1, h2, h3⟩
    · rw [h]; exact Nat.zero_le _
    · obtain ⟨G, g1, g2, g3⟩ := grown hp h2
      rw [h3]
      refine Nat.le_trans (on7_mono g1 7) ?_
      have := mtX_ge (P := P) (f := repB y n P) (n := 128) (nd_lt hp) g3
      rwa [nd_nd g2] at this
theorem flw_eq {y n : Nat → Nat} {P a b : Nat} (hp : P < 128) : flw y n P a b = flwM y n P a b := by
  have e127 : 127 &&& P = P := by
    rw [Nat.and_comm]
    exact (Nat.and_two_pow_sub_one_eq_mod _ 7).trans (Nat.mod_eq_of_lt hp)
  unfold flw flwM
  rw [e127]
  congr 1
  apply Bool.eq_iff_iff.mpr
  rw [Option.isNone_iff_eq_none, slv, fndN_none, allN_iff]
  constructor
  · intro h v hv
    have := h v hv
    simp only [sol] at this
    simp only [hB2]
    revert this
    cases aB y n P v <;> by_cases h1 : nd b v = 0 <;> by_cases h2 : a &&& v = 0 <;> simp [h1, h2]
  · intro h v hv
    have := h v hv
    simp only [hB2] at this
    simp only [sol]
    revert this
    cases aB y n P v <;> by_cases h1 : nd b v = 0 <;> by_cases h2 : a &&& v = 0 <;> simp [h1, h2]
theorem addP_lt {P a b : Nat} (hp : P < 128) : addP P a b < 128 := by
  unfold addP
  cases h : addK P a b with
  | none => exact hp
  | some k =>
    have hk : k < 7 := by
      unfold addK at h
      split at h
      · exact fndN_lt h
      · cases h
    exact or7 hp hk
theorem addY_lt {y : Nat → Nat} {P a b v : Nat} (hy : ∀ k, y k < 16) (hv : setB (nI a) = true → setB (nI b) = true → v < 16) : ∀ k, addY y P a b v k < 16 := by
  intro k
  unfold addY
  cases h : addK P a b with
  | none => exact hy k
  | some j =>
    have hab : setB (nI a) = true ∧ setB (nI b) = true := by
      unfold addK at h
      split at h
      · rename_i h2
        exact Bool.and_eq_true_iff.mp h2
      · cases h
    simp only [updN]
    split
    · exact hv hab.1 hab.2
    · exact hy k
theorem remP_lt {P a : Nat} (hp : P < 128) : remP P a < 128 := by
  unfold remP
  split
  · exact nd_lt hp
  · exact hp
theorem addN_good {y n : Nat → Nat} {P a b : Nat} {kb : Bool} {fc fr : Nat → Int64} (h : kb = true → Good y n P fc fr) : addN kb P a b = true → Good (addY y P a b a) (addY n P a b b) (addP P a b) fc fr := by
  unfold addN addY addP
  cases addK P a b with
  | none => exact h
  | some k => intro z; cases z
theorem remN_good {y n : Nat → Nat} {P a : Nat} {kb : Bool} {fc fr : Nat → Int64} (h : kb = true → Good y n P fc fr) : remN kb P a = true → Good y n (remP P a) fc fr := by
  unfold remN remP
  cases hasX P (nI a) with
  | false => exact h
  | true => intro z; cases z
end
section

/-! THE CLAIM OUT OF ONE WALK OF THE LAW'S BODY. Your part is whole_start (and what it stands on); all else here is the same for every law, but numbers. -/
def R_law : String := "CoreFinderLaw"
def lw_P (b : Addr) (xs : List Int32) (args : Array Value) (s : State) : Prop := args = #[.ref b] ∧ s.IntsAt b xs ∧ xs.length ≤ 192 ∧ (Jvm.Cond.and given_1 narrow_1).before args s = true
def lw_Q (_ : Array Value) (s : State) (o : Outcome) (t : State) : Prop := o = .returned (some (.int 1)) ∧ Framed s o t [] 600000 7290000
def lw_Z (below : List Frame) (a : Array Value) (s : State) : State → Prop := fun t => ∃ o, t.status = .running ∧ Ended t below o ∧ lw_Q a s o t
/-- the law's own end, with 1 on the stack, nothing written that was there before, its room as the claim has it -/
theorem lw_ret {p : Program} {l : Launch} {e : Env} {s : State} {m : MethodId} {below : List Frame} {meth : Method} {c : Code} {b : Nat} (hx : p.tables.exec = Jvm.exec) (hb : c.code = code) (hr : meth.sig.returnType = ret) (hlocks : meth.locks = false) {pc : Nat} {H : Heap} {ls : Array Slot} (hdg : decode code pc = .ok (.ireturn, 1)) : W p l e room_1 s m #[Value.ref b] below meth c H [] 600000 7290000 (lw_Z below #[Value.ref b] s) (F0 m pc ls [.int 1]) := by
  intro T hT X
  obtain ⟨fs, hret, hrun, hended, hW, hframe⟩ := X.leave (v := some (.int 1)) (hlocks := hlocks) (fun h => by rw [hr] at h; cases h)
  have hmeth' : T.vm.method? m = some meth := X.method'
  refine ⟨T.setFrames fs, ?_, .returned (some (.int 1)), hrun, hended, rfl, ⟨_, rfl⟩, hW, hframe⟩
  jvm_step X.here [X.here.top, hx, hb, hdg, hmeth', hr, ret, narrow_b1]
  (try refine ⟨rfl, ?_⟩); (try refine ⟨rfl, ?_⟩)
  first | (intro acts; rw [hret _ acts rfl rfl rfl]) | rw [hret _ _ rfl rfl rfl]
  exact Steps.refl _
/-- what holds at the law's entry: the machine, the code, the tables' words (any of lw_tbl by 'hts w (by decide +kernel)'), the script of L ints xs at the cell b, what the Statement gives of the start (any of its parts by flat_of_before) -/
def lw_At (p : Program) (s : State) (m : MethodId) (meth : Method) (c : Code) (b L : Nat) (xs : Nat → Int32) : Prop :=
  p.tables.exec = Jvm.exec ∧ c.code = code ∧ meth.sig.returnType = ret ∧ c.maxLocals = 4 ∧ s.vm.findClass R_law = some m.cls ∧ (∀ w ∈ lw_tbl, w.before #[Value.ref b] s = true) ∧ va_X b L xs s s.heap ∧ b < s.heap.size ∧ meth.locks = false ∧ (Jvm.Cond.and given_1 narrow_1).before #[Value.ref b] s = true
set_option maxRecDepth 100000
theorem nv_sld {p : Program} {l : Launch} {e : Env} {R : Room} {s : State} {m : MethodId} {args : Array Value} {below : List Frame} {meth : Method} {c : Code} {H : Heap} {locs : List Loc} {cells slots : Nat} {Q : State → Prop} {cc : ByteArray} {pc : Nat} {ls : Array Slot} {rest : List Value} {A : Nat → Prop} {H0 : Heap} (hexec : p.tables.exec = Jvm.exec) (hb : c.code = cc) {b L : Nat} {xs : Nat → Int32} (hX : va_X b L xs s H0) (hbl : b < H0.size) (hbA : ¬ A b) (hS : va_S A H0 H locs) {j : Nat} (hj : j < L) (hL : L < 2 ^ 31) {v : Int32} (hv : xs j = v) (hdg : decode cc pc = .ok (.iaload, 1)) (kk : W p l e R s m args below meth c H locs cells slots Q (F0 m (pc + 1) ls (.int v :: rest))) : W p l e R s m args below meth c H locs cells slots Q (F0 m pc ls (.int (nI j) :: .ref b :: rest)) :=
  va_sld hexec hb hX hbl hbA hS (vp_in_nI hj hL) hdg (nv_e (by rw [nI_clamp (by omega)]; exact hv) kk)
theorem law_cond {L i : Nat} (hL : L ≤ 192) (hi : i ≤ L) (h : ¬ nI L - nI 3 < nI i) : i + 3 ≤ L := by
  apply Nat.le_of_not_lt
  intro z
  apply h
  rw [Int32.lt_iff_toInt_lt, pk_sub_toInt (by omega) (by decide), nI_toInt (by omega)]
  omega
set_option maxHeartbeats 4000000 in
theorem law_add {p : Program} {e : Env} {s : State} {m : MethodId} {below : List Frame} {meth : Method} {c : Code} (l : Launch) {b L : Nat} {xs : Nat → Int32} (hL : L ≤ 192) (C0 : lw_At p s m meth c b L xs) (dC : Nat → ClassId) (dI : Nat → Nat → Nat) (aX aM : Nat → Nat) (cX cM : Nat → ClassId) (hKX : va_K (dC, dI) vwCl (tX cX) s) (hKM : va_K (dC, dI) vwCl (tM cM) s) {i : Nat} (hi3 : i + 3 ≤ L) (P : Nat) (y n : Nat → Nat) (kb : Bool) (fd fc fr : Nat → Int64) (f : Nat → Int32) (hp7 : P < 128) (hy : ∀ k, y k < 16) (hn : ∀ k, n k < 16) (hgood : kb = true → Good y n P fc fr) (cont : ∀ (P : Nat) (y n : Nat → Nat) (kb : Bool) (fd fc fr : Nat → Int64) (f : Nat → Int32), P < 128 → (∀ k, y k < 16) → (∀ k, n k < 16) → (kb = true → Good y n P fc fr) → ∀ (H : Heap) (locs : List Loc), va_P (dC, dI) vwCl ((wX aX cX P y n (bI kb) fd fc fr) ++ (wM aM cM P y n f)) H → va_D (fun q : Nat => s.heap.size ≤ q) ((wX aX cX P y n (bI kb) fd fc fr) ++ (wM aM cM P y n f)) → va_S (fun q : Nat => s.heap.size ≤ q) s.heap H locs → ∀ ls : Array Slot, lv_has ls 4 [(0, .ref b), (1, .ref (aX 0)), (2, .ref (aM 0)), (3, .int (nI i))] → W p l e room_1 s m #[Value.ref b] below meth c H locs 11 182 (lw_Z below #[Value.ref b] s) (F0 m 376 ls [])) (H : Heap) (locs : List Loc) (hP : va_P (dC, dI) vwCl ((wX aX cX P y n (bI kb) fd fc fr) ++ (wM aM cM P y n f)) H) (hD : va_D (fun q : Nat => s.heap.size ≤ q) ((wX aX cX P y n (bI kb) fd fc fr) ++ (wM aM cM P y n f))) (hS : va_S (fun q : Nat => s.heap.size ≤ q) s.heap H locs) (ls : Array Slot) (hl : lv_has ls 4 [(0, .ref b), (1, .ref (aX 0)), (2, .ref (aM 0)), (3, .int (nI i))]) : W p l e room_1 s m #[Value.ref b] below meth c H locs 11 182 (lw_Z below #[Value.ref b] s) (F0 m 104 ls []) := by
  obtain ⟨hx, hb, hr, hml, hown, hts0, hX, hbl, hlocks, hgv⟩ := id C0
  have hown : s.vm.findClass "CoreFinderLaw" = some m.cls := hown
  have hts : ∀ w ∈ lw_all, w.before #[Value.ref b] s = true := fun w h => hts0 w (lw_all_tbl h)
  have hA : ∀ q : Nat, s.heap.size ≤ q → (fun q : Nat => s.heap.size ≤ q) q := fun _ h => h
  have hbA : ¬ (fun q : Nat => s.heap.size ≤ q) b := Nat.not_le.mpr hbl
  obtain ⟨a1, ha1, ea1⟩ := nn_of (xs (i + 1))
  obtain ⟨a2, ha2, ea2⟩ := nn_of (xs (i + 2))
  refine lv_aload_n hx hb dL_law_104 rfl (lv_at hl 1 rfl) ?_
  refine lv_aload_n hx hb dL_law_105 rfl (lv_at hl 0 rfl) ?_
  refine lv_iload_n hx hb dL_law_106 rfl (lv_at hl 3 rfl) ?_
  refine lv_iconst (v := (nI 1)) hx hb dL_law_107 (by decide) ?_
  refine nv_add hx hb dL_law_108 ?_
  refine nv_sld hx hb hX hbl hbA hS (by omega) (by omega) ea1 dL_law_109 ?_
  refine lv_aload_n hx hb dL_law_110 rfl (lv_at hl 0 rfl) ?_
  refine lv_iload_n hx hb dL_law_111 rfl (lv_at hl 3 rfl) ?_
  refine lv_iconst (v := (nI 2)) hx hb dL_law_112 (by decide) ?_
  refine nv_add hx hb dL_law_113 ?_
  refine nv_sld hx hb hX hbl hbA hS (by omega) (by omega) ea2 dL_law_114 ?_
  refine mi_callV (ws0 := (wX aX cX P y n (bI kb) fd fc fr ++ wM aM cM P y n f)) (wr := (wM aM cM P y n f)) ⟨hx, hb, hml, hown, hts⟩ [.int (nI a1), .int (nI a2)] (fun sz => mX0_add l dC dI aX cX P y n kb fd fc fr a1 a2 ha1 ha2 sz) (lw_V q53 q54 q55 q19 q56) hdX0_add ⟨Nat.le_of_ble_eq_true rfl, Nat.le_of_ble_eq_true rfl⟩ ⟨rfl, rfl⟩ hKX [0, 1, 2, 3, 4, 5] [6, 7, 8, 9, 10] rfl rfl rfl rfl (by decide) rfl (q0 := 0) (ci := 0) rfl rfl rfl hl.1 rfl (Nat.le_of_ble_eq_true rfl) dL_law_115 ⟨Nat.le_of_ble_eq_true rfl, Nat.le_of_ble_eq_true rfl⟩ hA hP hD hS (fun u1 H locs hu1 hP hD hS => ?_)
  subst hu1
  have hP : va_P (dC, dI) vwCl (wX aX cX (addP P a1 a2) (addY y P a1 a2 a1) (addY n P a1 a2 a2) (bI (addN kb P a1 a2)) fd fc fr ++ wM aM cM P y n f) H := hP.sub [5, 6, 7, 8, 9, 10, 0, 1, 2, 3, 4] rfl
  have hD : va_D (fun q : Nat => s.heap.size ≤ q) (wX aX cX (addP P a1 a2) (addY y P a1 a2 a1) (addY n P a1 a2 a2) (bI (addN kb P a1 a2)) fd fc fr ++ wM aM cM P y n f) := hD.sub [5, 6, 7, 8, 9, 10, 0, 1, 2, 3, 4] (by decide) rfl
  refine lv_aload_n hx hb dL_law_118 rfl (lv_at hl 2 rfl) ?_
  refine lv_aload_n hx hb dL_law_119 rfl (lv_at hl 0 rfl) ?_
  refine lv_iload_n hx hb dL_law_120 rfl (lv_at hl 3 rfl) ?_
  refine lv_iconst (v := (nI 1)) hx hb dL_law_121 (by decide) ?_
  refine nv_add hx hb dL_law_122 ?_
  refine nv_sld hx hb hX hbl hbA hS (by omega) (by omega) ea1 dL_law_123 ?_
  refine lv_aload_n hx hb dL_law_124 rfl (lv_at hl 0 rfl) ?_
  refine lv_iload_n hx hb dL_law_125 rfl (lv_at hl 3 rfl) ?_
  refine lv_iconst (v := (nI 2)) hx hb dL_law_126 (by decide) ?_
  refine nv_add hx hb dL_law_127 ?_
  refine nv_sld hx hb hX hbl hbA hS (by omega) (by omega) ea2 dL_law_128 ?_
  refine mi_callV (ws0 := (wX aX cX (addP P a1 a2) (addY y P a1 a2 a1) (addY n P a1 a2 a2) (bI (addN kb P a1 a2)) fd fc fr ++ wM aM cM P y n f)) (wr := (wX aX cX (addP P a1 a2) (addY y P a1 a2 a1) (addY n P a1 a2 a2) (bI (addN kb P a1 a2)) fd fc fr)) ⟨hx, hb, hml, hown, hts⟩ [.int (nI a1), .int (nI a2)] (fun sz => mX1_add l dC dI aM cM P y n f a1 a2 sz) (lw_V q183 q184 q185 q20 q186) hdX1_add ⟨Nat.le_of_ble_eq_true rfl, Nat.le_of_ble_eq_true rfl⟩ ⟨rfl, rfl⟩ hKM [6, 7, 8, 9, 10] [0, 1, 2, 3, 4, 5] rfl rfl rfl rfl (by decide) rfl (q0 := 0) (ci := 1) rfl rfl rfl hl.1 rfl (Nat.le_of_ble_eq_true rfl) dL_law_129 ⟨Nat.le_of_ble_eq_true rfl, Nat.le_of_ble_eq_true rfl⟩ hA hP hD hS (fun u2 H locs hu2 hP hD hS => ?_)
  subst hu2
  have hP : va_P (dC, dI) vwCl (wX aX cX (addP P a1 a2) (addY y P a1 a2 a1) (addY n P a1 a2 a2) (bI (addN kb P a1 a2)) fd fc fr ++ wM aM cM (addP P a1 a2) (addY y P a1 a2 a1) (addY n P a1 a2 a2) f) H := hP
  have hD : va_D (fun q : Nat => s.heap.size ≤ q) (wX aX cX (addP P a1 a2) (addY y P a1 a2 a1) (addY n P a1 a2 a2) (bI (addN kb P a1 a2)) fd fc fr ++ wM aM cM (addP P a1 a2) (addY y P a1 a2 a1) (addY n P a1 a2 a2) f) := hD
  refine lv_icmp_eq (tgt := 376) hx hb dL_law_132 (by decide) (fun _ => ?_) (fun z => absurd rfl z)
  exact cont (addP P a1 a2) (addY y P a1 a2 a1) (addY n P a1 a2 a2) (addN kb P a1 a2) fd fc fr f (addP_lt hp7) (addY_lt hy (fun h _ => setB_lt ha1 h)) (addY_lt hn (fun _ h => setB_lt ha2 h)) (addN_good hgood) H locs hP hD hS ls hl
set_option maxHeartbeats 4000000 in
theorem law_remove {p : Program} {e : Env} {s : State} {m : MethodId} {below : List Frame} {meth : Method} {c : Code} (l : Launch) {b L : Nat} {xs : Nat → Int32} (hL : L ≤ 192) (C0 : lw_At p s m meth c b L xs) (dC : Nat → ClassId) (dI : Nat → Nat → Nat) (aX aM : Nat → Nat) (cX cM : Nat → ClassId) (hKX : va_K (dC, dI) vwCl (tX cX) s) (hKM : va_K (dC, dI) vwCl (tM cM) s) {i : Nat} (hi3 : i + 3 ≤ L) (P : Nat) (y n : Nat → Nat) (kb : Bool) (fd fc fr : Nat → Int64) (f : Nat → Int32) (hp7 : P < 128) (hy : ∀ k, y k < 16) (hn : ∀ k, n k < 16) (hgood : kb = true → Good y n P fc fr) (cont : ∀ (P : Nat) (y n : Nat → Nat) (kb : Bool) (fd fc fr : Nat → Int64) (f : Nat → Int32), P < 128 → (∀ k, y k < 16) → (∀ k, n k < 16) → (kb = true → Good y n P fc fr) → ∀ (H : Heap) (locs : List Loc), va_P (dC, dI) vwCl ((wX aX cX P y n (bI kb) fd fc fr) ++ (wM aM cM P y n f)) H → va_D (fun q : Nat => s.heap.size ≤ q) ((wX aX cX P y n (bI kb) fd fc fr) ++ (wM aM cM P y n f)) → va_S (fun q : Nat => s.heap.size ≤ q) s.heap H locs → ∀ ls : Array Slot, lv_has ls 4 [(0, .ref b), (1, .ref (aX 0)), (2, .ref (aM 0)), (3, .int (nI i))] → W p l e room_1 s m #[Value.ref b] below meth c H locs 11 182 (lw_Z below #[Value.ref b] s) (F0 m 376 ls [])) (H : Heap) (locs : List Loc) (hP : va_P (dC, dI) vwCl ((wX aX cX P y n (bI kb) fd fc fr) ++ (wM aM cM P y n f)) H) (hD : va_D (fun q : Nat => s.heap.size ≤ q) ((wX aX cX P y n (bI kb) fd fc fr) ++ (wM aM cM P y n f))) (hS : va_S (fun q : Nat => s.heap.size ≤ q) s.heap H locs) (ls : Array Slot) (hl : lv_has ls 4 [(0, .ref b), (1, .ref (aX 0)), (2, .ref (aM 0)), (3, .int (nI i))]) : W p l e room_1 s m #[Value.ref b] below meth c H locs 11 182 (lw_Z below #[Value.ref b] s) (F0 m 137 ls []) := by
  obtain ⟨hx, hb, hr, hml, hown, hts0, hX, hbl, hlocks, hgv⟩ := id C0
  have hown : s.vm.findClass "CoreFinderLaw" = some m.cls := hown
  have hts : ∀ w ∈ lw_all, w.before #[Value.ref b] s = true := fun w h => hts0 w (lw_all_tbl h)
  have hA : ∀ q : Nat, s.heap.size ≤ q → (fun q : Nat => s.heap.size ≤ q) q := fun _ h => h
  have hbA : ¬ (fun q : Nat => s.heap.size ≤ q) b := Nat.not_le.mpr hbl
  obtain ⟨a1, ha1, ea1⟩ := nn_of (xs (i + 1))
  refine lv_aload_n hx hb dL_law_137 rfl (lv_at hl 1 rfl) ?_
  refine lv_aload_n hx hb dL_law_138 rfl (lv_at hl 0 rfl) ?_
  refine lv_iload_n hx hb dL_law_139 rfl (lv_at hl 3 rfl) ?_
  refine lv_iconst (v := (nI 1)) hx hb dL_law_140 (by decide) ?_
  refine nv_add hx hb dL_law_141 ?_
  refine nv_sld hx hb hX hbl hbA hS (by omega) (by omega) ea1 dL_law_142 ?_
  refine mi_callV (ws0 := (wX aX cX P y n (bI kb) fd fc fr ++ wM aM cM P y n f)) (wr := (wM aM cM P y n f)) ⟨hx, hb, hml, hown, hts⟩ [.int (nI a1)] (fun sz => mX0_remove l dC dI aX cX P y n kb fd fc fr a1 ha1 sz) (lw_V q64 q65 q66 q19 q67) hdX0_remove ⟨Nat.le_of_ble_eq_true rfl, Nat.le_of_ble_eq_true rfl⟩ ⟨rfl, rfl⟩ hKX [0, 1, 2, 3, 4, 5] [6, 7, 8, 9, 10] rfl rfl rfl rfl (by decide) rfl (q0 := 0) (ci := 0) rfl rfl rfl hl.1 rfl (Nat.le_of_ble_eq_true rfl) dL_law_143 ⟨Nat.le_of_ble_eq_true rfl, Nat.le_of_ble_eq_true rfl⟩ hA hP hD hS (fun u1 H locs hu1 hP hD hS => ?_)
  subst hu1
  have hP : va_P (dC, dI) vwCl (wX aX cX (remP P a1) y n (bI (remN kb P a1)) fd fc fr ++ wM aM cM P y n f) H := hP.sub [5, 6, 7, 8, 9, 10, 0, 1, 2, 3, 4] rfl
  have hD : va_D (fun q : Nat => s.heap.size ≤ q) (wX aX cX (remP P a1) y n (bI (remN kb P a1)) fd fc fr ++ wM aM cM P y n f) := hD.sub [5, 6, 7, 8, 9, 10, 0, 1, 2, 3, 4] (by decide) rfl
  refine lv_aload_n hx hb dL_law_146 rfl (lv_at hl 2 rfl) ?_
  refine lv_aload_n hx hb dL_law_147 rfl (lv_at hl 0 rfl) ?_
  refine lv_iload_n hx hb dL_law_148 rfl (lv_at hl 3 rfl) ?_
  refine lv_iconst (v := (nI 1)) hx hb dL_law_149 (by decide) ?_
  refine nv_add hx hb dL_law_150 ?_
  refine nv_sld hx hb hX hbl hbA hS (by omega) (by omega) ea1 dL_law_151 ?_
  refine mi_callV (ws0 := (wX aX cX (remP P a1) y n (bI (remN kb P a1)) fd fc fr ++ wM aM cM P y n f)) (wr := (wX aX cX (remP P a1) y n (bI (remN kb P a1)) fd fc fr)) ⟨hx, hb, hml, hown, hts⟩ [.int (nI a1)] (fun sz => mX1_remove l dC dI aM cM P y n f a1 ha1 sz) (lw_V q191 q192 q193 q20 q194) hdX1_remove ⟨Nat.le_of_ble_eq_true rfl, Nat.le_of_ble_eq_true rfl⟩ ⟨rfl, rfl⟩ hKM [6, 7, 8, 9, 10] [0, 1, 2, 3, 4, 5] rfl rfl rfl rfl (by decide) rfl (q0 := 0) (ci := 1) rfl rfl rfl hl.1 rfl (Nat.le_of_ble_eq_true rfl) dL_law_152 ⟨Nat.le_of_ble_eq_true rfl, Nat.le_of_ble_eq_true rfl⟩ hA hP hD hS (fun u2 H locs hu2 hP hD hS => ?_)
  subst hu2
  have hP : va_P (dC, dI) vwCl (wX aX cX (remP P a1) y n (bI (remN kb P a1)) fd fc fr ++ wM aM cM (remP P a1) y n f) H := hP
  have hD : va_D (fun q : Nat => s.heap.size ≤ q) (wX aX cX (remP P a1) y n (bI (remN kb P a1)) fd fc fr ++ wM aM cM (remP P a1) y n f) := hD
  refine lv_icmp_eq (tgt := 376) hx hb dL_law_155 (by decide) (fun _ => ?_) (fun z => absurd rfl z)
  exact cont (remP P a1) y n (remN kb P a1) fd fc fr f (remP_lt hp7) hy hn (remN_good hgood) H locs hP hD hS ls hl
set_option maxHeartbeats 4000000 in
theorem law_clauses {p : Program} {e : Env} {s : State} {m : MethodId} {below : List Frame} {meth : Method} {c : Code} (l : Launch) {b L : Nat} {xs : Nat → Int32} (hL : L ≤ 192) (C0 : lw_At p s m meth c b L xs) (dC : Nat → ClassId) (dI : Nat → Nat → Nat) (aX aM : Nat → Nat) (cX cM : Nat → ClassId) (hKX : va_K (dC, dI) vwCl (tX cX) s) (hKM : va_K (dC, dI) vwCl (tM cM) s) {i : Nat} (hi3 : i + 3 ≤ L) (P : Nat) (y n : Nat → Nat) (kb : Bool) (fd fc fr : Nat → Int64) (f : Nat → Int32) (hp7 : P < 128) (hy : ∀ k, y k < 16) (hn : ∀ k, n k < 16) (hgood : kb = true → Good y n P fc fr) (cont : ∀ (P : Nat) (y n : Nat → Nat) (kb : Bool) (fd fc fr : Nat → Int64) (f : Nat → Int32), P < 128 → (∀ k, y k < 16) → (∀ k, n k < 16) → (kb = true → Good y n P fc fr) → ∀ (H : Heap) (locs : List Loc), va_P (dC, dI) vwCl ((wX aX cX P y n (bI kb) fd fc fr) ++ (wM aM cM P y n f)) H → va_D (fun q : Nat => s.heap.size ≤ q) ((wX aX cX P y n (bI kb) fd fc fr) ++ (wM aM cM P y n f)) → va_S (fun q : Nat => s.heap.size ≤ q) s.heap H locs → ∀ ls : Array Slot, lv_has ls 4 [(0, .ref b), (1, .ref (aX 0)), (2, .ref (aM 0)), (3, .int (nI i))] → W p l e room_1 s m #[Value.ref b] below meth c H locs 11 182 (lw_Z below #[Value.ref b] s) (F0 m 376 ls [])) (H : Heap) (locs : List Loc) (hP : va_P (dC, dI) vwCl ((wX aX cX P y n (bI kb) fd fc fr) ++ (wM aM cM P y n f)) H) (hD : va_D (fun q : Nat => s.heap.size ≤ q) ((wX aX cX P y n (bI kb) fd fc fr) ++ (wM aM cM P y n f))) (hS : va_S (fun q : Nat => s.heap.size ≤ q) s.heap H locs) (ls : Array Slot) (hl : lv_has ls 4 [(0, .ref b), (1, .ref (aX 0)), (2, .ref (aM 0)), (3, .int (nI i))]) : W p l e room_1 s m #[Value.ref b] below meth c H locs 11 182 (lw_Z below #[Value.ref b] s) (F0 m 160 ls []) := by
  obtain ⟨hx, hb, hr, hml, hown, hts0, hX, hbl, hlocks, hgv⟩ := id C0
  have hown : s.vm.findClass "CoreFinderLaw" = some m.cls := hown
  have hts : ∀ w ∈ lw_all, w.before #[Value.ref b] s = true := fun w h => hts0 w (lw_all_tbl h)
  have hA : ∀ q : Nat, s.heap.size ≤ q → (fun q : Nat => s.heap.size ≤ q) q := fun _ h => h
  have hbA : ¬ (fun q : Nat => s.heap.size ≤ q) b := Nat.not_le.mpr hbl
  refine lv_aload_n hx hb dL_law_160 rfl (lv_at hl 1 rfl) ?_
  refine pi_callV (ws0 := (wX aX cX P y n (bI kb) fd fc fr ++ wM aM cM P y n f)) ⟨hx, hb, hml, hown, hts⟩ [] (mX0_clauses l dC dI aX cX P y n (bI kb) fd fc fr) (lw_V q68 q69 q70 q19 q71) hdX0_clauses ⟨Nat.le_of_ble_eq_true rfl, Nat.le_of_ble_eq_true rfl⟩ ⟨rfl, rfl⟩ hKX (hP.sub [0, 1, 2, 3, 4, 5] rfl) (q0 := 0) (ci := 0) rfl rfl rfl hl.1 rfl (Nat.le_of_ble_eq_true rfl) dL_law_161 ⟨Nat.le_of_ble_eq_true rfl, Nat.le_of_ble_eq_true rfl⟩ hP hS (fun H locs hP hS => ?_)
  refine lv_aload_n hx hb dL_law_164 rfl (lv_at hl 2 rfl) ?_
  refine pi_callV (ws0 := (wX aX cX P y n (bI kb) fd fc fr ++ wM aM cM P y n f)) ⟨hx, hb, hml, hown, hts⟩ [] (mX1_clauses l dC dI aM cM P y n f hp7) (lw_V q195 q196 q197 q20 q198) hdX1_clauses ⟨Nat.le_of_ble_eq_true rfl, Nat.le_of_ble_eq_true rfl⟩ ⟨rfl, rfl⟩ hKM (hP.sub [6, 7, 8, 9, 10] rfl) (q0 := 0) (ci := 1) rfl rfl rfl hl.1 rfl (Nat.le_of_ble_eq_true rfl) dL_law_165 ⟨Nat.le_of_ble_eq_true rfl, Nat.le_of_ble_eq_true rfl⟩ hP hS (fun H locs hP hS => ?_)
  refine lv_icmp_eq (tgt := 376) hx hb dL_law_168 (by decide) (fun _ => ?_) (fun z => absurd rfl z)
  exact cont P y n kb fd fc fr f hp7 hy hn hgood H locs hP hD hS ls hl
set_option maxHeartbeats 4000000 in
theorem law_consistent {p : Program} {e : Env} {s : State} {m : MethodId} {below : List Frame} {meth : Method} {c : Code} (l : Launch) {b L : Nat} {xs : Nat → Int32} (hL : L ≤ 192) (C0 : lw_At p s m meth c b L xs) (dC : Nat → ClassId) (dI : Nat → Nat → Nat) (aX aM : Nat → Nat) (cX cM : Nat → ClassId) (hKX : va_K (dC, dI) vwCl (tX cX) s) (hKM : va_K (dC, dI) vwCl (tM cM) s) {i : Nat} (hi3 : i + 3 ≤ L) (P : Nat) (y n : Nat → Nat) (kb : Bool) (fd fc fr : Nat → Int64) (f : Nat → Int32) (hp7 : P < 128) (hy : ∀ k, y k < 16) (hn : ∀ k, n k < 16) (hgood : kb = true → Good y n P fc fr) (cont : ∀ (P : Nat) (y n : Nat → Nat) (kb : Bool) (fd fc fr : Nat → Int64) (f : Nat → Int32), P < 128 → (∀ k, y k < 16) → (∀ k, n k < 16) → (kb = true → Good y n P fc fr) → ∀ (H : Heap) (locs : List Loc), va_P (dC, dI) vwCl ((wX aX cX P y n (bI kb) fd fc fr) ++ (wM aM cM P y n f)) H → va_D (fun q : Nat => s.heap.size ≤ q) ((wX aX cX P y n (bI kb) fd fc fr) ++ (wM aM cM P y n f)) → va_S (fun q : Nat => s.heap.size ≤ q) s.heap H locs → ∀ ls : Array Slot, lv_has ls 4 [(0, .ref b), (1, .ref (aX 0)), (2, .ref (aM 0)), (3, .int (nI i))] → W p l e room_1 s m #[Value.ref b] below meth c H locs 11 182 (lw_Z below #[Value.ref b] s) (F0 m 376 ls [])) (H : Heap) (locs : List Loc) (hP : va_P (dC, dI) vwCl ((wX aX cX P y n (bI kb) fd fc fr) ++ (wM aM cM P y n f)) H) (hD : va_D (fun q : Nat => s.heap.size ≤ q) ((wX aX cX P y n (bI kb) fd fc fr) ++ (wM aM cM P y n f))) (hS : va_S (fun q : Nat => s.heap.size ≤ q) s.heap H locs) (ls : Array Slot) (hl : lv_has ls 4 [(0, .ref b), (1, .ref (aX 0)), (2, .ref (aM 0)), (3, .int (nI i))]) : W p l e room_1 s m #[Value.ref b] below meth c H locs 11 182 (lw_Z below #[Value.ref b] s) (F0 m 173 ls []) := by
  obtain ⟨hx, hb, hr, hml, hown, hts0, hX, hbl, hlocks, hgv⟩ := id C0
  have hown : s.vm.findClass "CoreFinderLaw" = some m.cls := hown
  have hts : ∀ w ∈ lw_all, w.before #[Value.ref b] s = true := fun w h => hts0 w (lw_all_tbl h)
  have hA : ∀ q : Nat, s.heap.size ≤ q → (fun q : Nat => s.heap.size ≤ q) q := fun _ h => h
  have hbA : ¬ (fun q : Nat => s.heap.size ≤ q) b := Nat.not_le.mpr hbl
  obtain ⟨a1, ha1, ea1⟩ := nn_of (xs (i + 1))
  refine lv_aload_n hx hb dL_law_173 rfl (lv_at hl 1 rfl) ?_
  refine lv_aload_n hx hb dL_law_174 rfl (lv_at hl 0 rfl) ?_
  refine lv_iload_n hx hb dL_law_175 rfl (lv_at hl 3 rfl) ?_
  refine lv_iconst (v := (nI 1)) hx hb dL_law_176 (by decide) ?_
  refine nv_add hx hb dL_law_177 ?_
  refine nv_sld hx hb hX hbl hbA hS (by omega) (by omega) ea1 dL_law_178 ?_
  refine pi_callV (ws0 := (wX aX cX P y n (bI kb) fd fc fr ++ wM aM cM P y n f)) ⟨hx, hb, hml, hown, hts⟩ [.int (nI a1)] (mX0_consistent l dC dI aX cX P y n (bI kb) fd fc fr a1 hy hn) (lw_V q72 q73 q74 q19 q75) hdX0_consistent ⟨Nat.le_of_ble_eq_true rfl, Nat.le_of_ble_eq_true rfl⟩ ⟨rfl, rfl⟩ hKX (hP.sub [0, 1, 2, 3, 4, 5] rfl) (q0 := 0) (ci := 0) rfl rfl rfl hl.1 rfl (Nat.le_of_ble_eq_true rfl) dL_law_179 ⟨Nat.le_of_ble_eq_true rfl, Nat.le_of_ble_eq_true rfl⟩ hP hS (fun H locs hP hS => ?_)
  refine lv_aload_n hx hb dL_law_182 rfl (lv_at hl 2 rfl) ?_
  refine lv_aload_n hx hb dL_law_183 rfl (lv_at hl 0 rfl) ?_
  refine lv_iload_n hx hb dL_law_184 rfl (lv_at hl 3 rfl) ?_
  refine lv_iconst (v := (nI 1)) hx hb dL_law_185 (by decide) ?_
  refine nv_add hx hb dL_law_186 ?_
  refine nv_sld hx hb hX hbl hbA hS (by omega) (by omega) ea1 dL_law_187 ?_
  refine pi_callV (ws0 := (wX aX cX P y n (bI kb) fd fc fr ++ wM aM cM P y n f)) ⟨hx, hb, hml, hown, hts⟩ [.int (nI a1)] (mX1_consistent l dC dI aM cM P y n f a1 hn) (lw_V q199 q200 q201 q20 q202) hdX1_consistent ⟨Nat.le_of_ble_eq_true rfl, Nat.le_of_ble_eq_true rfl⟩ ⟨rfl, rfl⟩ hKM (hP.sub [6, 7, 8, 9, 10] rfl) (q0 := 0) (ci := 1) rfl rfl rfl hl.1 rfl (Nat.le_of_ble_eq_true rfl) dL_law_188 ⟨Nat.le_of_ble_eq_true rfl, Nat.le_of_ble_eq_true rfl⟩ hP hS (fun H locs hP hS => ?_)
  refine lv_icmp_eq (tgt := 376) hx hb dL_law_191 (by decide) (fun _ => ?_) (fun z => absurd rfl z)
  exact cont P y n kb fd fc fr f hp7 hy hn hgood H locs hP hD hS ls hl
set_option maxHeartbeats 4000000 in
theorem law_witness {p : Program} {e : Env} {s : State} {m : MethodId} {below : List Frame} {meth : Method} {c : Code} (l : Launch) {b L : Nat} {xs : Nat → Int32} (hL : L ≤ 192) (C0 : lw_At p s m meth c b L xs) (dC : Nat → ClassId) (dI : Nat → Nat → Nat) (aX aM : Nat → Nat) (cX cM : Nat → ClassId) (hKX : va_K (dC, dI) vwCl (tX cX) s) (hKM : va_K (dC, dI) vwCl (tM cM) s) {i : Nat} (hi3 : i + 3 ≤ L) (P : Nat) (y n : Nat → Nat) (kb : Bool) (fd fc fr : Nat → Int64) (f : Nat → Int32) (hp7 : P < 128) (hy : ∀ k, y k < 16) (hn : ∀ k, n k < 16) (hgood : kb = true → Good y n P fc fr) (cont : ∀ (P : Nat) (y n : Nat → Nat) (kb : Bool) (fd fc fr : Nat → Int64) (f : Nat → Int32), P < 128 → (∀ k, y k < 16) → (∀ k, n k < 16) → (kb = true → Good y n P fc fr) → ∀ (H : Heap) (locs : List Loc), va_P (dC, dI) vwCl ((wX aX cX P y n (bI kb) fd fc fr) ++ (wM aM cM P y n f)) H → va_D (fun q : Nat => s.heap.size ≤ q) ((wX aX cX P y n (bI kb) fd fc fr) ++ (wM aM cM P y n f)) → va_S (fun q : Nat => s.heap.size ≤ q) s.heap H locs → ∀ ls : Array Slot, lv_has ls 4 [(0, .ref b), (1, .ref (aX 0)), (2, .ref (aM 0)), (3, .int (nI i))] → W p l e room_1 s m #[Value.ref b] below meth c H locs 11 182 (lw_Z below #[Value.ref b] s) (F0 m 376 ls [])) (H : Heap) (locs : List Loc) (hP : va_P (dC, dI) vwCl ((wX aX cX P y n (bI kb) fd fc fr) ++ (wM aM cM P y n f)) H) (hD : va_D (fun q : Nat => s.heap.size ≤ q) ((wX aX cX P y n (bI kb) fd fc fr) ++ (wM aM cM P y n f))) (hS : va_S (fun q : Nat => s.heap.size ≤ q) s.heap H locs) (ls : Array Slot) (hl : lv_has ls 4 [(0, .ref b), (1, .ref (aX 0)), (2, .ref (aM 0)), (3, .int (nI i))]) : W p l e room_1 s m #[Value.ref b] below meth c H locs 11 182 (lw_Z below #[Value.ref b] s) (F0 m 196 ls []) := by
  obtain ⟨hx, hb, hr, hml, hown, hts0, hX, hbl, hlocks, hgv⟩ := id C0
  have hown : s.vm.findClass "CoreFinderLaw" = some m.cls := hown
  have hts : ∀ w ∈ lw_all, w.before #[Value.ref b] s = true := fun w h => hts0 w (lw_all_tbl h)
  have hA : ∀ q : Nat, s.heap.size ≤ q → (fun q : Nat => s.heap.size ≤ q) q := fun _ h => h
  have hbA : ¬ (fun q : Nat => s.heap.size ≤ q) b := Nat.not_le.mpr hbl
  obtain ⟨a1, ha1, ea1⟩ := nn_of (xs (i + 1))
  refine lv_aload_n hx hb dL_law_196 rfl (lv_at hl 1 rfl) ?_
  refine lv_aload_n hx hb dL_law_197 rfl (lv_at hl 0 rfl) ?_
  refine lv_iload_n hx hb dL_law_198 rfl (lv_at hl 3 rfl) ?_
  refine lv_iconst (v := (nI 1)) hx hb dL_law_199 (by decide) ?_
  refine nv_add hx hb dL_law_200 ?_
  refine nv_sld hx hb hX hbl hbA hS (by omega) (by omega) ea1 dL_law_201 ?_
  refine pi_callV (ws0 := (wX aX cX P y n (bI kb) fd fc fr ++ wM aM cM P y n f)) ⟨hx, hb, hml, hown, hts⟩ [.int (nI a1)] (mX0_witness l dC dI aX cX P y n (bI kb) fd fc fr a1 hy hn) (lw_V q88 q89 q90 q19 q91) hdX0_witness ⟨Nat.le_of_ble_eq_true rfl, Nat.le_of_ble_eq_true rfl⟩ ⟨rfl, rfl⟩ hKX (hP.sub [0, 1, 2, 3, 4, 5] rfl) (q0 := 0) (ci := 0) rfl rfl rfl hl.1 rfl (Nat.le_of_ble_eq_true rfl) dL_law_202 ⟨Nat.le_of_ble_eq_true rfl, Nat.le_of_ble_eq_true rfl⟩ hP hS (fun H locs hP hS => ?_)
  refine lv_aload_n hx hb dL_law_205 rfl (lv_at hl 2 rfl) ?_
  refine lv_aload_n hx hb dL_law_206 rfl (lv_at hl 0 rfl) ?_
  refine lv_iload_n hx hb dL_law_207 rfl (lv_at hl 3 rfl) ?_
  refine lv_iconst (v := (nI 1)) hx hb dL_law_208 (by decide) ?_
  refine nv_add hx hb dL_law_209 ?_
  refine nv_sld hx hb hX hbl hbA hS (by omega) (by omega) ea1 dL_law_210 ?_
  refine pi_callV (ws0 := (wX aX cX P y n (bI kb) fd fc fr ++ wM aM cM P y n f)) ⟨hx, hb, hml, hown, hts⟩ [.int (nI a1)] (mX1_witness l dC dI aM cM P y n f a1 hn) (lw_V q215 q204 q205 q20 q206) hdX1_witness ⟨Nat.le_of_ble_eq_true rfl, Nat.le_of_ble_eq_true rfl⟩ ⟨rfl, rfl⟩ hKM (hP.sub [6, 7, 8, 9, 10] rfl) (q0 := 0) (ci := 1) rfl rfl rfl hl.1 rfl (Nat.le_of_ble_eq_true rfl) dL_law_211 ⟨Nat.le_of_ble_eq_true rfl, Nat.le_of_ble_eq_true rfl⟩ hP hS (fun H locs hP hS => ?_)
  refine lv_icmp_eq (tgt := 376) hx hb dL_law_214 (by decide) (fun _ => ?_) (fun z => absurd (by rw [slv00]) z)
  exact cont P y n kb fd fc fr f hp7 hy hn hgood H locs hP hD hS ls hl
set_option maxHeartbeats 4000000 in
theorem law_cores {p : Program} {e : Env} {s : State} {m : MethodId} {below : List Frame} {meth : Method} {c : Code} (l : Launch) {b L : Nat} {xs : Nat → Int32} (hL : L ≤ 192) (C0 : lw_At p s m meth c b L xs) (dC : Nat → ClassId) (dI : Nat → Nat → Nat) (aX aM : Nat → Nat) (cX cM : Nat → ClassId) (hKX : va_K (dC, dI) vwCl (tX cX) s) (hKM : va_K (dC, dI) vwCl (tM cM) s) {i : Nat} (hi3 : i + 3 ≤ L) (P : Nat) (y n : Nat → Nat) (kb : Bool) (fd fc fr : Nat → Int64) (f : Nat → Int32) (hp7 : P < 128) (hy : ∀ k, y k < 16) (hn : ∀ k, n k < 16) (hgood : kb = true → Good y n P fc fr) (cont : ∀ (P : Nat) (y n : Nat → Nat) (kb : Bool) (fd fc fr : Nat → Int64) (f : Nat → Int32), P < 128 → (∀ k, y k < 16) → (∀ k, n k < 16) → (kb = true → Good y n P fc fr) → ∀ (H : Heap) (locs : List Loc), va_P (dC, dI) vwCl ((wX aX cX P y n (bI kb) fd fc fr) ++ (wM aM cM P y n f)) H → va_D (fun q : Nat => s.heap.size ≤ q) ((wX aX cX P y n (bI kb) fd fc fr) ++ (wM aM cM P y n f)) → va_S (fun q : Nat => s.heap.size ≤ q) s.heap H locs → ∀ ls : Array Slot, lv_has ls 4 [(0, .ref b), (1, .ref (aX 0)), (2, .ref (aM 0)), (3, .int (nI i))] → W p l e room_1 s m #[Value.ref b] below meth c H locs 11 182 (lw_Z below #[Value.ref b] s) (F0 m 376 ls [])) (H : Heap) (locs : List Loc) (hP : va_P (dC, dI) vwCl ((wX aX cX P y n (bI kb) fd fc fr) ++ (wM aM cM P y n f)) H) (hD : va_D (fun q : Nat => s.heap.size ≤ q) ((wX aX cX P y n (bI kb) fd fc fr) ++ (wM aM cM P y n f))) (hS : va_S (fun q : Nat => s.heap.size ≤ q) s.heap H locs) (ls : Array Slot) (hl : lv_has ls 4 [(0, .ref b), (1, .ref (aX 0)), (2, .ref (aM 0)), (3, .int (nI i))]) : W p l e room_1 s m #[Value.ref b] below meth c H locs 11 182 (lw_Z below #[Value.ref b] s) (F0 m 219 ls []) := by
  obtain ⟨hx, hb, hr, hml, hown, hts0, hX, hbl, hlocks, hgv⟩ := id C0
  have hown : s.vm.findClass "CoreFinderLaw" = some m.cls := hown
  have hts : ∀ w ∈ lw_all, w.before #[Value.ref b] s = true := fun w h => hts0 w (lw_all_tbl h)
  have hA : ∀ q : Nat, s.heap.size ≤ q → (fun q : Nat => s.heap.size ≤ q) q := fun _ h => h
  have hbA : ¬ (fun q : Nat => s.heap.size ≤ q) b := Nat.not_le.mpr hbl
  refine lv_aload_n hx hb dL_law_219 rfl (lv_at hl 1 rfl) ?_
  refine mi_callV (ws0 := (wX aX cX P y n (bI kb) fd fc fr ++ wM aM cM P y n f)) (wr := (wM aM cM P y n f)) ⟨hx, hb, hml, hown, hts⟩ [] (fun sz => mX0_cores l dC dI aX cX P y n kb fd fc fr  hp7 hy hn hgood  sz) (lw_V q92 q93 q94 q19 q95) hdX0_cores ⟨Nat.le_of_ble_eq_true rfl, Nat.le_of_ble_eq_true rfl⟩ ⟨rfl, rfl⟩ hKX [0, 1, 2, 3, 4, 5] [6, 7, 8, 9, 10] rfl rfl rfl rfl (by decide) rfl (q0 := 0) (ci := 0) rfl rfl rfl hl.1 rfl (Nat.le_of_ble_eq_true rfl) dL_law_220 ⟨Nat.le_of_ble_eq_true rfl, Nat.le_of_ble_eq_true rfl⟩ hA hP hD hS (fun u1 H locs hu1 hP hD hS => ?_)
  have hP : va_P (dC, dI) vwCl (wX aX cX P y n (bI true) u1.1 u1.2.1 u1.2.2 ++ wM aM cM P y n f) H := hP.sub [5, 6, 7, 8, 9, 10, 0, 1, 2, 3, 4] rfl
  have hD : va_D (fun q : Nat => s.heap.size ≤ q) (wX aX cX P y n (bI true) u1.1 u1.2.1 u1.2.2 ++ wM aM cM P y n f) := hD.sub [5, 6, 7, 8, 9, 10, 0, 1, 2, 3, 4] (by decide) rfl
  refine lv_aload_n hx hb dL_law_223 rfl (lv_at hl 2 rfl) ?_
  refine mi_callV (ws0 := (wX aX cX P y n (bI true) u1.1 u1.2.1 u1.2.2 ++ wM aM cM P y n f)) (wr := (wX aX cX P y n (bI true) u1.1 u1.2.1 u1.2.2)) ⟨hx, hb, hml, hown, hts⟩ [] (fun sz => mX1_cores l dC dI aM cM P y n f  hp7 hn  sz) (lw_V q216 q217 q218 q20 q219) hdX1_cores ⟨Nat.le_of_ble_eq_true rfl, Nat.le_of_ble_eq_true rfl⟩ ⟨rfl, rfl⟩ hKM [6, 7, 8, 9, 10] [0, 1, 2, 3, 4, 5] rfl rfl rfl rfl (by decide) rfl (q0 := 0) (ci := 1) rfl rfl rfl hl.1 rfl (Nat.le_of_ble_eq_true rfl) dL_law_224 ⟨Nat.le_of_ble_eq_true rfl, Nat.le_of_ble_eq_true rfl⟩ hA hP hD hS (fun u2 H locs hu2 hP hD hS => ?_)
  have hP : va_P (dC, dI) vwCl (wX aX cX P y n (bI true) u1.1 u1.2.1 u1.2.2 ++ wM aM cM P y n u2) H := hP
  have hD : va_D (fun q : Nat => s.heap.size ≤ q) (wX aX cX P y n (bI true) u1.1 u1.2.1 u1.2.2 ++ wM aM cM P y n u2) := hD
  refine lv_icmp_eq (tgt := 376) hx hb dL_law_227 (by decide) (fun _ => ?_) (fun z => absurd rfl z)
  exact cont P y n true u1.1 u1.2.1 u1.2.2 u2 hp7 hy hn (fun _ => hu1) H locs hP hD hS ls hl
set_option maxHeartbeats 4000000 in
theorem law_core {p : Program} {e : Env} {s : State} {m : MethodId} {below : List Frame} {meth : Method} {c : Code} (l : Launch) {b L : Nat} {xs : Nat → Int32} (hL : L ≤ 192) (C0 : lw_At p s m meth c b L xs) (dC : Nat → ClassId) (dI : Nat → Nat → Nat) (aX aM : Nat → Nat) (cX cM : Nat → ClassId) (hKX : va_K (dC, dI) vwCl (tX cX) s) (hKM : va_K (dC, dI) vwCl (tM cM) s) {i : Nat} (hi3 : i + 3 ≤ L) (P : Nat) (y n : Nat → Nat) (kb : Bool) (fd fc fr : Nat → Int64) (f : Nat → Int32) (hp7 : P < 128) (hy : ∀ k, y k < 16) (hn : ∀ k, n k < 16) (hgood : kb = true → Good y n P fc fr) (cont : ∀ (P : Nat) (y n : Nat → Nat) (kb : Bool) (fd fc fr : Nat → Int64) (f : Nat → Int32), P < 128 → (∀ k, y k < 16) → (∀ k, n k < 16) → (kb = true → Good y n P fc fr) → ∀ (H : Heap) (locs : List Loc), va_P (dC, dI) vwCl ((wX aX cX P y n (bI kb) fd fc fr) ++ (wM aM cM P y n f)) H → va_D (fun q : Nat => s.heap.size ≤ q) ((wX aX cX P y n (bI kb) fd fc fr) ++ (wM aM cM P y n f)) → va_S (fun q : Nat => s.heap.size ≤ q) s.heap H locs → ∀ ls : Array Slot, lv_has ls 4 [(0, .ref b), (1, .ref (aX 0)), (2, .ref (aM 0)), (3, .int (nI i))] → W p l e room_1 s m #[Value.ref b] below meth c H locs 11 182 (lw_Z below #[Value.ref b] s) (F0 m 376 ls [])) (H : Heap) (locs : List Loc) (hP : va_P (dC, dI) vwCl ((wX aX cX P y n (bI kb) fd fc fr) ++ (wM aM cM P y n f)) H) (hD : va_D (fun q : Nat => s.heap.size ≤ q) ((wX aX cX P y n (bI kb) fd fc fr) ++ (wM aM cM P y n f))) (hS : va_S (fun q : Nat => s.heap.size ≤ q) s.heap H locs) (ls : Array Slot) (hl : lv_has ls 4 [(0, .ref b), (1, .ref (aX 0)), (2, .ref (aM 0)), (3, .int (nI i))]) : W p l e room_1 s m #[Value.ref b] below meth c H locs 11 182 (lw_Z below #[Value.ref b] s) (F0 m 232 ls []) := by
  obtain ⟨hx, hb, hr, hml, hown, hts0, hX, hbl, hlocks, hgv⟩ := id C0
  have hown : s.vm.findClass "CoreFinderLaw" = some m.cls := hown
  have hts : ∀ w ∈ lw_all, w.before #[Value.ref b] s = true := fun w h => hts0 w (lw_all_tbl h)
  have hA : ∀ q : Nat, s.heap.size ≤ q → (fun q : Nat => s.heap.size ≤ q) q := fun _ h => h
  have hbA : ¬ (fun q : Nat => s.heap.size ≤ q) b := Nat.not_le.mpr hbl
  obtain ⟨a1, ha1, ea1⟩ := nn_of (xs (i + 1))
  refine lv_aload_n hx hb dL_law_232 rfl (lv_at hl 1 rfl) ?_
  refine lv_aload_n hx hb dL_law_233 rfl (lv_at hl 0 rfl) ?_
  refine lv_iload_n hx hb dL_law_234 rfl (lv_at hl 3 rfl) ?_
  refine lv_iconst (v := (nI 1)) hx hb dL_law_235 (by decide) ?_
  refine nv_add hx hb dL_law_236 ?_
  refine nv_sld hx hb hX hbl hbA hS (by omega) (by omega) ea1 dL_law_237 ?_
  refine mi_callV (ws0 := (wX aX cX P y n (bI kb) fd fc fr ++ wM aM cM P y n f)) (wr := (wM aM cM P y n f)) ⟨hx, hb, hml, hown, hts⟩ [.int (nI a1)] (fun sz => mX0_core l dC dI aX cX P y n kb fd fc fr a1 hp7 hy hn hgood ha1 sz) (lw_V q123 q124 q125 q19 q126) hdX0_core ⟨Nat.le_of_ble_eq_true rfl, Nat.le_of_ble_eq_true rfl⟩ ⟨rfl, rfl⟩ hKX [0, 1, 2, 3, 4, 5] [6, 7, 8, 9, 10] rfl rfl rfl rfl (by decide) rfl (q0 := 0) (ci := 0) rfl rfl rfl hl.1 rfl (Nat.le_of_ble_eq_true rfl) dL_law_238 ⟨Nat.le_of_ble_eq_true rfl, Nat.le_of_ble_eq_true rfl⟩ hA hP hD hS (fun u1 H locs hu1 hP hD hS => ?_)
  have hP : va_P (dC, dI) vwCl (wX aX cX P y n (bI true) u1.1 u1.2.1 u1.2.2 ++ wM aM cM P y n f) H := hP.sub [5, 6, 7, 8, 9, 10, 0, 1, 2, 3, 4] rfl
  have hD : va_D (fun q : Nat => s.heap.size ≤ q) (wX aX cX P y n (bI true) u1.1 u1.2.1 u1.2.2 ++ wM aM cM P y n f) := hD.sub [5, 6, 7, 8, 9, 10, 0, 1, 2, 3, 4] (by decide) rfl
  refine lv_aload_n hx hb dL_law_241 rfl (lv_at hl 2 rfl) ?_
  refine lv_aload_n hx hb dL_law_242 rfl (lv_at hl 0 rfl) ?_
  refine lv_iload_n hx hb dL_law_243 rfl (lv_at hl 3 rfl) ?_
  refine lv_iconst (v := (nI 1)) hx hb dL_law_244 (by decide) ?_
  refine nv_add hx hb dL_law_245 ?_
  refine nv_sld hx hb hX hbl hbA hS (by omega) (by omega) ea1 dL_law_246 ?_
  refine mi_callV (ws0 := (wX aX cX P y n (bI true) u1.1 u1.2.1 u1.2.2 ++ wM aM cM P y n f)) (wr := (wX aX cX P y n (bI true) u1.1 u1.2.1 u1.2.2)) ⟨hx, hb, hml, hown, hts⟩ [.int (nI a1)] (fun sz => mX1_core l dC dI aM cM P y n f a1 hp7 hn ha1 sz) (lw_V q230 q231 q232 q20 q233) hdX1_core ⟨Nat.le_of_ble_eq_true rfl, Nat.le_of_ble_eq_true rfl⟩ ⟨rfl, rfl⟩ hKM [6, 7, 8, 9, 10] [0, 1, 2, 3, 4, 5] rfl rfl rfl rfl (by decide) rfl (q0 := 0) (ci := 1) rfl rfl rfl hl.1 rfl (Nat.le_of_ble_eq_true rfl) dL_law_247 ⟨Nat.le_of_ble_eq_true rfl, Nat.le_of_ble_eq_true rfl⟩ hA hP hD hS (fun u2 H locs hu2 hP hD hS => ?_)
  have hP : va_P (dC, dI) vwCl (wX aX cX P y n (bI true) u1.1 u1.2.1 u1.2.2 ++ wM aM cM P y n u2) H := hP
  have hD : va_D (fun q : Nat => s.heap.size ≤ q) (wX aX cX P y n (bI true) u1.1 u1.2.1 u1.2.2 ++ wM aM cM P y n u2) := hD
  refine lv_icmp_eq (tgt := 376) hx hb dL_law_250 (by decide) (fun _ => ?_) (fun z => absurd rfl z)
  exact cont P y n true u1.1 u1.2.1 u1.2.2 u2 hp7 hy hn (fun _ => hu1) H locs hP hD hS ls hl
set_option maxHeartbeats 4000000 in
theorem law_repairs {p : Program} {e : Env} {s : State} {m : MethodId} {below : List Frame} {meth : Method} {c : Code} (l : Launch) {b L : Nat} {xs : Nat → Int32} (hL : L ≤ 192) (C0 : lw_At p s m meth c b L xs) (dC : Nat → ClassId) (dI : Nat → Nat → Nat) (aX aM : Nat → Nat) (cX cM : Nat → ClassId) (hKX : va_K (dC, dI) vwCl (tX cX) s) (hKM : va_K (dC, dI) vwCl (tM cM) s) {i : Nat} (hi3 : i + 3 ≤ L) (P : Nat) (y n : Nat → Nat) (kb : Bool) (fd fc fr : Nat → Int64) (f : Nat → Int32) (hp7 : P < 128) (hy : ∀ k, y k < 16) (hn : ∀ k, n k < 16) (hgood : kb = true → Good y n P fc fr) (cont : ∀ (P : Nat) (y n : Nat → Nat) (kb : Bool) (fd fc fr : Nat → Int64) (f : Nat → Int32), P < 128 → (∀ k, y k < 16) → (∀ k, n k < 16) → (kb = true → Good y n P fc fr) → ∀ (H : Heap) (locs : List Loc), va_P (dC, dI) vwCl ((wX aX cX P y n (bI kb) fd fc fr) ++ (wM aM cM P y n f)) H → va_D (fun q : Nat => s.heap.size ≤ q) ((wX aX cX P y n (bI kb) fd fc fr) ++ (wM aM cM P y n f)) → va_S (fun q : Nat => s.heap.size ≤ q) s.heap H locs → ∀ ls : Array Slot, lv_has ls 4 [(0, .ref b), (1, .ref (aX 0)), (2, .ref (aM 0)), (3, .int (nI i))] → W p l e room_1 s m #[Value.ref b] below meth c H locs 11 182 (lw_Z below #[Value.ref b] s) (F0 m 376 ls [])) (H : Heap) (locs : List Loc) (hP : va_P (dC, dI) vwCl ((wX aX cX P y n (bI kb) fd fc fr) ++ (wM aM cM P y n f)) H) (hD : va_D (fun q : Nat => s.heap.size ≤ q) ((wX aX cX P y n (bI kb) fd fc fr) ++ (wM aM cM P y n f))) (hS : va_S (fun q : Nat => s.heap.size ≤ q) s.heap H locs) (ls : Array Slot) (hl : lv_has ls 4 [(0, .ref b), (1, .ref (aX 0)), (2, .ref (aM 0)), (3, .int (nI i))]) : W p l e room_1 s m #[Value.ref b] below meth c H locs 11 182 (lw_Z below #[Value.ref b] s) (F0 m 255 ls []) := by
  obtain ⟨hx, hb, hr, hml, hown, hts0, hX, hbl, hlocks, hgv⟩ := id C0
  have hown : s.vm.findClass "CoreFinderLaw" = some m.cls := hown
  have hts : ∀ w ∈ lw_all, w.before #[Value.ref b] s = true := fun w h => hts0 w (lw_all_tbl h)
  have hA : ∀ q : Nat, s.heap.size ≤ q → (fun q : Nat => s.heap.size ≤ q) q := fun _ h => h
  have hbA : ¬ (fun q : Nat => s.heap.size ≤ q) b := Nat.not_le.mpr hbl
  refine lv_aload_n hx hb dL_law_255 rfl (lv_at hl 1 rfl) ?_
  refine mi_callV (ws0 := (wX aX cX P y n (bI kb) fd fc fr ++ wM aM cM P y n f)) (wr := (wM aM cM P y n f)) ⟨hx, hb, hml, hown, hts⟩ [] (fun sz => mX0_repairs l dC dI aX cX P y n kb fd fc fr  hp7 hy hn hgood  sz) (lw_V q127 q128 q129 q19 q130) hdX0_repairs ⟨Nat.le_of_ble_eq_true rfl, Nat.le_of_ble_eq_true rfl⟩ ⟨rfl, rfl⟩ hKX [0, 1, 2, 3, 4, 5] [6, 7, 8, 9, 10] rfl rfl rfl rfl (by decide) rfl (q0 := 0) (ci := 0) rfl rfl rfl hl.1 rfl (Nat.le_of_ble_eq_true rfl) dL_law_256 ⟨Nat.le_of_ble_eq_true rfl, Nat.le_of_ble_eq_true rfl⟩ hA hP hD hS (fun u1 H locs hu1 hP hD hS => ?_)
  have hP : va_P (dC, dI) vwCl (wX aX cX P y n (bI true) u1.1 u1.2.1 u1.2.2 ++ wM aM cM P y n f) H := hP.sub [5, 6, 7, 8, 9, 10, 0, 1, 2, 3, 4] rfl
  have hD : va_D (fun q : Nat => s.heap.size ≤ q) (wX aX cX P y n (bI true) u1.1 u1.2.1 u1.2.2 ++ wM aM cM P y n f) := hD.sub [5, 6, 7, 8, 9, 10, 0, 1, 2, 3, 4] (by decide) rfl
  refine lv_aload_n hx hb dL_law_259 rfl (lv_at hl 2 rfl) ?_
  refine mi_callV (ws0 := (wX aX cX P y n (bI true) u1.1 u1.2.1 u1.2.2 ++ wM aM cM P y n f)) (wr := (wX aX cX P y n (bI true) u1.1 u1.2.1 u1.2.2)) ⟨hx, hb, hml, hown, hts⟩ [] (fun sz => mX1_repairs l dC dI aM cM P y n f  hp7 hn  sz) (lw_V q234 q235 q236 q20 q237) hdX1_repairs ⟨Nat.le_of_ble_eq_true rfl, Nat.le_of_ble_eq_true rfl⟩ ⟨rfl, rfl⟩ hKM [6, 7, 8, 9, 10] [0, 1, 2, 3, 4, 5] rfl rfl rfl rfl (by decide) rfl (q0 := 0) (ci := 1) rfl rfl rfl hl.1 rfl (Nat.le_of_ble_eq_true rfl) dL_law_260 ⟨Nat.le_of_ble_eq_true rfl, Nat.le_of_ble_eq_true rfl⟩ hA hP hD hS (fun u2 H locs hu2 hP hD hS => ?_)
  have hP : va_P (dC, dI) vwCl (wX aX cX P y n (bI true) u1.1 u1.2.1 u1.2.2 ++ wM aM cM P y n u2) H := hP
  have hD : va_D (fun q : Nat => s.heap.size ≤ q) (wX aX cX P y n (bI true) u1.1 u1.2.1 u1.2.2 ++ wM aM cM P y n u2) := hD
  refine lv_icmp_eq (tgt := 376) hx hb dL_law_263 (by decide) (fun _ => ?_) (fun z => absurd rfl z)
  exact cont P y n true u1.1 u1.2.1 u1.2.2 u2 hp7 hy hn (fun _ => hu1) H locs hP hD hS ls hl
set_option maxHeartbeats 4000000 in
theorem law_repair {p : Program} {e : Env} {s : State} {m : MethodId} {below : List Frame} {meth : Method} {c : Code} (l : Launch) {b L : Nat} {xs : Nat → Int32} (hL : L ≤ 192) (C0 : lw_At p s m meth c b L xs) (dC : Nat → ClassId) (dI : Nat → Nat → Nat) (aX aM : Nat → Nat) (cX cM : Nat → ClassId) (hKX : va_K (dC, dI) vwCl (tX cX) s) (hKM : va_K (dC, dI) vwCl (tM cM) s) {i : Nat} (hi3 : i + 3 ≤ L) (P : Nat) (y n : Nat → Nat) (kb : Bool) (fd fc fr : Nat → Int64) (f : Nat → Int32) (hp7 : P < 128) (hy : ∀ k, y k < 16) (hn : ∀ k, n k < 16) (hgood : kb = true → Good y n P fc fr) (cont : ∀ (P : Nat) (y n : Nat → Nat) (kb : Bool) (fd fc fr : Nat → Int64) (f : Nat → Int32), P < 128 → (∀ k, y k < 16) → (∀ k, n k < 16) → (kb = true → Good y n P fc fr) → ∀ (H : Heap) (locs : List Loc), va_P (dC, dI) vwCl ((wX aX cX P y n (bI kb) fd fc fr) ++ (wM aM cM P y n f)) H → va_D (fun q : Nat => s.heap.size ≤ q) ((wX aX cX P y n (bI kb) fd fc fr) ++ (wM aM cM P y n f)) → va_S (fun q : Nat => s.heap.size ≤ q) s.heap H locs → ∀ ls : Array Slot, lv_has ls 4 [(0, .ref b), (1, .ref (aX 0)), (2, .ref (aM 0)), (3, .int (nI i))] → W p l e room_1 s m #[Value.ref b] below meth c H locs 11 182 (lw_Z below #[Value.ref b] s) (F0 m 376 ls [])) (H : Heap) (locs : List Loc) (hP : va_P (dC, dI) vwCl ((wX aX cX P y n (bI kb) fd fc fr) ++ (wM aM cM P y n f)) H) (hD : va_D (fun q : Nat => s.heap.size ≤ q) ((wX aX cX P y n (bI kb) fd fc fr) ++ (wM aM cM P y n f))) (hS : va_S (fun q : Nat => s.heap.size ≤ q) s.heap H locs) (ls : Array Slot) (hl : lv_has ls 4 [(0, .ref b), (1, .ref (aX 0)), (2, .ref (aM 0)), (3, .int (nI i))]) : W p l e room_1 s m #[Value.ref b] below meth c H locs 11 182 (lw_Z below #[Value.ref b] s) (F0 m 268 ls []) := by
  obtain ⟨hx, hb, hr, hml, hown, hts0, hX, hbl, hlocks, hgv⟩ := id C0
  have hown : s.vm.findClass "CoreFinderLaw" = some m.cls := hown
  have hts : ∀ w ∈ lw_all, w.before #[Value.ref b] s = true := fun w h => hts0 w (lw_all_tbl h)
  have hA : ∀ q : Nat, s.heap.size ≤ q → (fun q : Nat => s.heap.size ≤ q) q := fun _ h => h
  have hbA : ¬ (fun q : Nat => s.heap.size ≤ q) b := Nat.not_le.mpr hbl
  obtain ⟨a1, ha1, ea1⟩ := nn_of (xs (i + 1))
  refine lv_aload_n hx hb dL_law_268 rfl (lv_at hl 1 rfl) ?_
  refine lv_aload_n hx hb dL_law_269 rfl (lv_at hl 0 rfl) ?_
  refine lv_iload_n hx hb dL_law_270 rfl (lv_at hl 3 rfl) ?_
  refine lv_iconst (v := (nI 1)) hx hb dL_law_271 (by decide) ?_
  refine nv_add hx hb dL_law_272 ?_
  refine nv_sld hx hb hX hbl hbA hS (by omega) (by omega) ea1 dL_law_273 ?_
  refine mi_callV (ws0 := (wX aX cX P y n (bI kb) fd fc fr ++ wM aM cM P y n f)) (wr := (wM aM cM P y n f)) ⟨hx, hb, hml, hown, hts⟩ [.int (nI a1)] (fun sz => mX0_repair l dC dI aX cX P y n kb fd fc fr a1 hp7 hy hn hgood ha1 sz) (lw_V q135 q136 q137 q19 q138) hdX0_repair ⟨Nat.le_of_ble_eq_true rfl, Nat.le_of_ble_eq_true rfl⟩ ⟨rfl, rfl⟩ hKX [0, 1, 2, 3, 4, 5] [6, 7, 8, 9, 10] rfl rfl rfl rfl (by decide) rfl (q0 := 0) (ci := 0) rfl rfl rfl hl.1 rfl (Nat.le_of_ble_eq_true rfl) dL_law_274 ⟨Nat.le_of_ble_eq_true rfl, Nat.le_of_ble_eq_true rfl⟩ hA hP hD hS (fun u1 H locs hu1 hP hD hS => ?_)
  have hP : va_P (dC, dI) vwCl (wX aX cX P y n (bI true) u1.1 u1.2.1 u1.2.2 ++ wM aM cM P y n f) H := hP.sub [5, 6, 7, 8, 9, 10, 0, 1, 2, 3, 4] rfl
  have hD : va_D (fun q : Nat => s.heap.size ≤ q) (wX aX cX P y n (bI true) u1.1 u1.2.1 u1.2.2 ++ wM aM cM P y n f) := hD.sub [5, 6, 7, 8, 9, 10, 0, 1, 2, 3, 4] (by decide) rfl
  refine lv_aload_n hx hb dL_law_277 rfl (lv_at hl 2 rfl) ?_
  refine lv_aload_n hx hb dL_law_278 rfl (lv_at hl 0 rfl) ?_
  refine lv_iload_n hx hb dL_law_279 rfl (lv_at hl 3 rfl) ?_
  refine lv_iconst (v := (nI 1)) hx hb dL_law_280 (by decide) ?_
  refine nv_add hx hb dL_law_281 ?_
  refine nv_sld hx hb hX hbl hbA hS (by omega) (by omega) ea1 dL_law_282 ?_
  refine mi_callV (ws0 := (wX aX cX P y n (bI true) u1.1 u1.2.1 u1.2.2 ++ wM aM cM P y n f)) (wr := (wX aX cX P y n (bI true) u1.1 u1.2.1 u1.2.2)) ⟨hx, hb, hml, hown, hts⟩ [.int (nI a1)] (fun sz => mX1_repair l dC dI aM cM P y n f a1 hp7 hn ha1 sz) (lw_V q242 q243 q244 q20 q245) hdX1_repair ⟨Nat.le_of_ble_eq_true rfl, Nat.le_of_ble_eq_true rfl⟩ ⟨rfl, rfl⟩ hKM [6, 7, 8, 9, 10] [0, 1, 2, 3, 4, 5] rfl rfl rfl rfl (by decide) rfl (q0 := 0) (ci := 1) rfl rfl rfl hl.1 rfl (Nat.le_of_ble_eq_true rfl) dL_law_283 ⟨Nat.le_of_ble_eq_true rfl, Nat.le_of_ble_eq_true rfl⟩ hA hP hD hS (fun u2 H locs hu2 hP hD hS => ?_)
  have hP : va_P (dC, dI) vwCl (wX aX cX P y n (bI true) u1.1 u1.2.1 u1.2.2 ++ wM aM cM P y n u2) H := hP
  have hD : va_D (fun q : Nat => s.heap.size ≤ q) (wX aX cX P y n (bI true) u1.1 u1.2.1 u1.2.2 ++ wM aM cM P y n u2) := hD
  refine lv_icmp_eq (tgt := 376) hx hb dL_law_286 (by decide) (fun _ => ?_) (fun z => absurd rfl z)
  exact cont P y n true u1.1 u1.2.1 u1.2.2 u2 hp7 hy hn (fun _ => hu1) H locs hP hD hS ls hl
set_option maxHeartbeats 4000000 in
theorem law_guilty {p : Program} {e : Env} {s : State} {m : MethodId} {below : List Frame} {meth : Method} {c : Code} (l : Launch) {b L : Nat} {xs : Nat → Int32} (hL : L ≤ 192) (C0 : lw_At p s m meth c b L xs) (dC : Nat → ClassId) (dI : Nat → Nat → Nat) (aX aM : Nat → Nat) (cX cM : Nat → ClassId) (hKX : va_K (dC, dI) vwCl (tX cX) s) (hKM : va_K (dC, dI) vwCl (tM cM) s) {i : Nat} (hi3 : i + 3 ≤ L) (P : Nat) (y n : Nat → Nat) (kb : Bool) (fd fc fr : Nat → Int64) (f : Nat → Int32) (hp7 : P < 128) (hy : ∀ k, y k < 16) (hn : ∀ k, n k < 16) (hgood : kb = true → Good y n P fc fr) (cont : ∀ (P : Nat) (y n : Nat → Nat) (kb : Bool) (fd fc fr : Nat → Int64) (f : Nat → Int32), P < 128 → (∀ k, y k < 16) → (∀ k, n k < 16) → (kb = true → Good y n P fc fr) → ∀ (H : Heap) (locs : List Loc), va_P (dC, dI) vwCl ((wX aX cX P y n (bI kb) fd fc fr) ++ (wM aM cM P y n f)) H → va_D (fun q : Nat => s.heap.size ≤ q) ((wX aX cX P y n (bI kb) fd fc fr) ++ (wM aM cM P y n f)) → va_S (fun q : Nat => s.heap.size ≤ q) s.heap H locs → ∀ ls : Array Slot, lv_has ls 4 [(0, .ref b), (1, .ref (aX 0)), (2, .ref (aM 0)), (3, .int (nI i))] → W p l e room_1 s m #[Value.ref b] below meth c H locs 11 182 (lw_Z below #[Value.ref b] s) (F0 m 376 ls [])) (H : Heap) (locs : List Loc) (hP : va_P (dC, dI) vwCl ((wX aX cX P y n (bI kb) fd fc fr) ++ (wM aM cM P y n f)) H) (hD : va_D (fun q : Nat => s.heap.size ≤ q) ((wX aX cX P y n (bI kb) fd fc fr) ++ (wM aM cM P y n f))) (hS : va_S (fun q : Nat => s.heap.size ≤ q) s.heap H locs) (ls : Array Slot) (hl : lv_has ls 4 [(0, .ref b), (1, .ref (aX 0)), (2, .ref (aM 0)), (3, .int (nI i))]) : W p l e room_1 s m #[Value.ref b] below meth c H locs 11 182 (lw_Z below #[Value.ref b] s) (F0 m 291 ls []) := by
  obtain ⟨hx, hb, hr, hml, hown, hts0, hX, hbl, hlocks, hgv⟩ := id C0
  have hown : s.vm.findClass "CoreFinderLaw" = some m.cls := hown
  have hts : ∀ w ∈ lw_all, w.before #[Value.ref b] s = true := fun w h => hts0 w (lw_all_tbl h)
  have hA : ∀ q : Nat, s.heap.size ≤ q → (fun q : Nat => s.heap.size ≤ q) q := fun _ h => h
  have hbA : ¬ (fun q : Nat => s.heap.size ≤ q) b := Nat.not_le.mpr hbl
  refine lv_aload_n hx hb dL_law_291 rfl (lv_at hl 1 rfl) ?_
  refine mi_callV (ws0 := (wX aX cX P y n (bI kb) fd fc fr ++ wM aM cM P y n f)) (wr := (wM aM cM P y n f)) ⟨hx, hb, hml, hown, hts⟩ [] (fun sz => mX0_guilty l dC dI aX cX P y n kb fd fc fr  hp7 hy hn hgood  sz) (lw_V q139 q140 q141 q19 q142) hdX0_guilty ⟨Nat.le_of_ble_eq_true rfl, Nat.le_of_ble_eq_true rfl⟩ ⟨rfl, rfl⟩ hKX [0, 1, 2, 3, 4, 5] [6, 7, 8, 9, 10] rfl rfl rfl rfl (by decide) rfl (q0 := 0) (ci := 0) rfl rfl rfl hl.1 rfl (Nat.le_of_ble_eq_true rfl) dL_law_292 ⟨Nat.le_of_ble_eq_true rfl, Nat.le_of_ble_eq_true rfl⟩ hA hP hD hS (fun u1 H locs hu1 hP hD hS => ?_)
  have hP : va_P (dC, dI) vwCl (wX aX cX P y n (bI true) u1.1 u1.2.1 u1.2.2 ++ wM aM cM P y n f) H := hP.sub [5, 6, 7, 8, 9, 10, 0, 1, 2, 3, 4] rfl
  have hD : va_D (fun q : Nat => s.heap.size ≤ q) (wX aX cX P y n (bI true) u1.1 u1.2.1 u1.2.2 ++ wM aM cM P y n f) := hD.sub [5, 6, 7, 8, 9, 10, 0, 1, 2, 3, 4] (by decide) rfl
  refine lv_aload_n hx hb dL_law_295 rfl (lv_at hl 2 rfl) ?_
  refine mi_callV (ws0 := (wX aX cX P y n (bI true) u1.1 u1.2.1 u1.2.2 ++ wM aM cM P y n f)) (wr := (wX aX cX P y n (bI true) u1.1 u1.2.1 u1.2.2)) ⟨hx, hb, hml, hown, hts⟩ [] (fun sz => mX1_guilty l dC dI aM cM P y n f  hp7 hn  sz) (lw_V q246 q247 q248 q20 q249) hdX1_guilty ⟨Nat.le_of_ble_eq_true rfl, Nat.le_of_ble_eq_true rfl⟩ ⟨rfl, rfl⟩ hKM [6, 7, 8, 9, 10] [0, 1, 2, 3, 4, 5] rfl rfl rfl rfl (by decide) rfl (q0 := 0) (ci := 1) rfl rfl rfl hl.1 rfl (Nat.le_of_ble_eq_true rfl) dL_law_296 ⟨Nat.le_of_ble_eq_true rfl, Nat.le_of_ble_eq_true rfl⟩ hA hP hD hS (fun u2 H locs hu2 hP hD hS => ?_)
  have hP : va_P (dC, dI) vwCl (wX aX cX P y n (bI true) u1.1 u1.2.1 u1.2.2 ++ wM aM cM P y n u2) H := hP
  have hD : va_D (fun q : Nat => s.heap.size ≤ q) (wX aX cX P y n (bI true) u1.1 u1.2.1 u1.2.2 ++ wM aM cM P y n u2) := hD
  refine lv_icmp_eq (tgt := 376) hx hb dL_law_299 (by decide) (fun _ => ?_) (fun z => absurd rfl z)
  exact cont P y n true u1.1 u1.2.1 u1.2.2 u2 hp7 hy hn (fun _ => hu1) H locs hP hD hS ls hl
set_option maxHeartbeats 4000000 in
theorem law_central {p : Program} {e : Env} {s : State} {m : MethodId} {below : List Frame} {meth : Method} {c : Code} (l : Launch) {b L : Nat} {xs : Nat → Int32} (hL : L ≤ 192) (C0 : lw_At p s m meth c b L xs) (dC : Nat → ClassId) (dI : Nat → Nat → Nat) (aX aM : Nat → Nat) (cX cM : Nat → ClassId) (hKX : va_K (dC, dI) vwCl (tX cX) s) (hKM : va_K (dC, dI) vwCl (tM cM) s) {i : Nat} (hi3 : i + 3 ≤ L) (P : Nat) (y n : Nat → Nat) (kb : Bool) (fd fc fr : Nat → Int64) (f : Nat → Int32) (hp7 : P < 128) (hy : ∀ k, y k < 16) (hn : ∀ k, n k < 16) (hgood : kb = true → Good y n P fc fr) (cont : ∀ (P : Nat) (y n : Nat → Nat) (kb : Bool) (fd fc fr : Nat → Int64) (f : Nat → Int32), P < 128 → (∀ k, y k < 16) → (∀ k, n k < 16) → (kb = true → Good y n P fc fr) → ∀ (H : Heap) (locs : List Loc), va_P (dC, dI) vwCl ((wX aX cX P y n (bI kb) fd fc fr) ++ (wM aM cM P y n f)) H → va_D (fun q : Nat => s.heap.size ≤ q) ((wX aX cX P y n (bI kb) fd fc fr) ++ (wM aM cM P y n f)) → va_S (fun q : Nat => s.heap.size ≤ q) s.heap H locs → ∀ ls : Array Slot, lv_has ls 4 [(0, .ref b), (1, .ref (aX 0)), (2, .ref (aM 0)), (3, .int (nI i))] → W p l e room_1 s m #[Value.ref b] below meth c H locs 11 182 (lw_Z below #[Value.ref b] s) (F0 m 376 ls [])) (H : Heap) (locs : List Loc) (hP : va_P (dC, dI) vwCl ((wX aX cX P y n (bI kb) fd fc fr) ++ (wM aM cM P y n f)) H) (hD : va_D (fun q : Nat => s.heap.size ≤ q) ((wX aX cX P y n (bI kb) fd fc fr) ++ (wM aM cM P y n f))) (hS : va_S (fun q : Nat => s.heap.size ≤ q) s.heap H locs) (ls : Array Slot) (hl : lv_has ls 4 [(0, .ref b), (1, .ref (aX 0)), (2, .ref (aM 0)), (3, .int (nI i))]) : W p l e room_1 s m #[Value.ref b] below meth c H locs 11 182 (lw_Z below #[Value.ref b] s) (F0 m 304 ls []) := by
  obtain ⟨hx, hb, hr, hml, hown, hts0, hX, hbl, hlocks, hgv⟩ := id C0
  have hown : s.vm.findClass "CoreFinderLaw" = some m.cls := hown
  have hts : ∀ w ∈ lw_all, w.before #[Value.ref b] s = true := fun w h => hts0 w (lw_all_tbl h)
  have hA : ∀ q : Nat, s.heap.size ≤ q → (fun q : Nat => s.heap.size ≤ q) q := fun _ h => h
  have hbA : ¬ (fun q : Nat => s.heap.size ≤ q) b := Nat.not_le.mpr hbl
  refine lv_aload_n hx hb dL_law_304 rfl (lv_at hl 1 rfl) ?_
  refine mi_callV (ws0 := (wX aX cX P y n (bI kb) fd fc fr ++ wM aM cM P y n f)) (wr := (wM aM cM P y n f)) ⟨hx, hb, hml, hown, hts⟩ [] (fun sz => mX0_central l dC dI aX cX P y n kb fd fc fr  hp7 hy hn hgood  sz) (lw_V q143 q144 q145 q19 q146) hdX0_central ⟨Nat.le_of_ble_eq_true rfl, Nat.le_of_ble_eq_true rfl⟩ ⟨rfl, rfl⟩ hKX [0, 1, 2, 3, 4, 5] [6, 7, 8, 9, 10] rfl rfl rfl rfl (by decide) rfl (q0 := 0) (ci := 0) rfl rfl rfl hl.1 rfl (Nat.le_of_ble_eq_true rfl) dL_law_305 ⟨Nat.le_of_ble_eq_true rfl, Nat.le_of_ble_eq_true rfl⟩ hA hP hD hS (fun u1 H locs hu1 hP hD hS => ?_)
  have hP : va_P (dC, dI) vwCl (wX aX cX P y n (bI true) u1.1 u1.2.1 u1.2.2 ++ wM aM cM P y n f) H := hP.sub [5, 6, 7, 8, 9, 10, 0, 1, 2, 3, 4] rfl
  have hD : va_D (fun q : Nat => s.heap.size ≤ q) (wX aX cX P y n (bI true) u1.1 u1.2.1 u1.2.2 ++ wM aM cM P y n f) := hD.sub [5, 6, 7, 8, 9, 10, 0, 1, 2, 3, 4] (by decide) rfl
  refine lv_aload_n hx hb dL_law_308 rfl (lv_at hl 2 rfl) ?_
  refine mi_callV (ws0 := (wX aX cX P y n (bI true) u1.1 u1.2.1 u1.2.2 ++ wM aM cM P y n f)) (wr := (wX aX cX P y n (bI true) u1.1 u1.2.1 u1.2.2)) ⟨hx, hb, hml, hown, hts⟩ [] (fun sz => mX1_central l dC dI aM cM P y n f  hp7 hn  sz) (lw_V q250 q251 q252 q20 q253) hdX1_central ⟨Nat.le_of_ble_eq_true rfl, Nat.le_of_ble_eq_true rfl⟩ ⟨rfl, rfl⟩ hKM [6, 7, 8, 9, 10] [0, 1, 2, 3, 4, 5] rfl rfl rfl rfl (by decide) rfl (q0 := 0) (ci := 1) rfl rfl rfl hl.1 rfl (Nat.le_of_ble_eq_true rfl) dL_law_309 ⟨Nat.le_of_ble_eq_true rfl, Nat.le_of_ble_eq_true rfl⟩ hA hP hD hS (fun u2 H locs hu2 hP hD hS => ?_)
  have hP : va_P (dC, dI) vwCl (wX aX cX P y n (bI true) u1.1 u1.2.1 u1.2.2 ++ wM aM cM P y n u2) H := hP
  have hD : va_D (fun q : Nat => s.heap.size ≤ q) (wX aX cX P y n (bI true) u1.1 u1.2.1 u1.2.2 ++ wM aM cM P y n u2) := hD
  refine lv_icmp_eq (tgt := 376) hx hb dL_law_312 (by decide) (fun _ => ?_) (fun z => absurd rfl z)
  exact cont P y n true u1.1 u1.2.1 u1.2.2 u2 hp7 hy hn (fun _ => hu1) H locs hP hD hS ls hl
set_option maxHeartbeats 4000000 in
theorem law_smallestCore {p : Program} {e : Env} {s : State} {m : MethodId} {below : List Frame} {meth : Method} {c : Code} (l : Launch) {b L : Nat} {xs : Nat → Int32} (hL : L ≤ 192) (C0 : lw_At p s m meth c b L xs) (dC : Nat → ClassId) (dI : Nat → Nat → Nat) (aX aM : Nat → Nat) (cX cM : Nat → ClassId) (hKX : va_K (dC, dI) vwCl (tX cX) s) (hKM : va_K (dC, dI) vwCl (tM cM) s) {i : Nat} (hi3 : i + 3 ≤ L) (P : Nat) (y n : Nat → Nat) (kb : Bool) (fd fc fr : Nat → Int64) (f : Nat → Int32) (hp7 : P < 128) (hy : ∀ k, y k < 16) (hn : ∀ k, n k < 16) (hgood : kb = true → Good y n P fc fr) (cont : ∀ (P : Nat) (y n : Nat → Nat) (kb : Bool) (fd fc fr : Nat → Int64) (f : Nat → Int32), P < 128 → (∀ k, y k < 16) → (∀ k, n k < 16) → (kb = true → Good y n P fc fr) → ∀ (H : Heap) (locs : List Loc), va_P (dC, dI) vwCl ((wX aX cX P y n (bI kb) fd fc fr) ++ (wM aM cM P y n f)) H → va_D (fun q : Nat => s.heap.size ≤ q) ((wX aX cX P y n (bI kb) fd fc fr) ++ (wM aM cM P y n f)) → va_S (fun q : Nat => s.heap.size ≤ q) s.heap H locs → ∀ ls : Array Slot, lv_has ls 4 [(0, .ref b), (1, .ref (aX 0)), (2, .ref (aM 0)), (3, .int (nI i))] → W p l e room_1 s m #[Value.ref b] below meth c H locs 11 182 (lw_Z below #[Value.ref b] s) (F0 m 376 ls [])) (H : Heap) (locs : List Loc) (hP : va_P (dC, dI) vwCl ((wX aX cX P y n (bI kb) fd fc fr) ++ (wM aM cM P y n f)) H) (hD : va_D (fun q : Nat => s.heap.size ≤ q) ((wX aX cX P y n (bI kb) fd fc fr) ++ (wM aM cM P y n f))) (hS : va_S (fun q : Nat => s.heap.size ≤ q) s.heap H locs) (ls : Array Slot) (hl : lv_has ls 4 [(0, .ref b), (1, .ref (aX 0)), (2, .ref (aM 0)), (3, .int (nI i))]) : W p l e room_1 s m #[Value.ref b] below meth c H locs 11 182 (lw_Z below #[Value.ref b] s) (F0 m 317 ls []) := by
  obtain ⟨hx, hb, hr, hml, hown, hts0, hX, hbl, hlocks, hgv⟩ := id C0
  have hown : s.vm.findClass "CoreFinderLaw" = some m.cls := hown
  have hts : ∀ w ∈ lw_all, w.before #[Value.ref b] s = true := fun w h => hts0 w (lw_all_tbl h)
  have hA : ∀ q : Nat, s.heap.size ≤ q → (fun q : Nat => s.heap.size ≤ q) q := fun _ h => h
  have hbA : ¬ (fun q : Nat => s.heap.size ≤ q) b := Nat.not_le.mpr hbl
  refine lv_aload_n hx hb dL_law_317 rfl (lv_at hl 1 rfl) ?_
  refine mi_callV (ws0 := (wX aX cX P y n (bI kb) fd fc fr ++ wM aM cM P y n f)) (wr := (wM aM cM P y n f)) ⟨hx, hb, hml, hown, hts⟩ [] (fun sz => mX0_smallestCore l dC dI aX cX P y n kb fd fc fr  hp7 hy hn hgood  sz) (lw_V q147 q148 q149 q19 q150) hdX0_smallestCore ⟨Nat.le_of_ble_eq_true rfl, Nat.le_of_ble_eq_true rfl⟩ ⟨rfl, rfl⟩ hKX [0, 1, 2, 3, 4, 5] [6, 7, 8, 9, 10] rfl rfl rfl rfl (by decide) rfl (q0 := 0) (ci := 0) rfl rfl rfl hl.1 rfl (Nat.le_of_ble_eq_true rfl) dL_law_318 ⟨Nat.le_of_ble_eq_true rfl, Nat.le_of_ble_eq_true rfl⟩ hA hP hD hS (fun u1 H locs hu1 hP hD hS => ?_)
  have hP : va_P (dC, dI) vwCl (wX aX cX P y n (bI true) u1.1 u1.2.1 u1.2.2 ++ wM aM cM P y n f) H := hP.sub [5, 6, 7, 8, 9, 10, 0, 1, 2, 3, 4] rfl
  have hD : va_D (fun q : Nat => s.heap.size ≤ q) (wX aX cX P y n (bI true) u1.1 u1.2.1 u1.2.2 ++ wM aM cM P y n f) := hD.sub [5, 6, 7, 8, 9, 10, 0, 1, 2, 3, 4] (by decide) rfl
  refine lv_aload_n hx hb dL_law_321 rfl (lv_at hl 2 rfl) ?_
  refine mi_callV (ws0 := (wX aX cX P y n (bI true) u1.1 u1.2.1 u1.2.2 ++ wM aM cM P y n f)) (wr := (wX aX cX P y n (bI true) u1.1 u1.2.1 u1.2.2)) ⟨hx, hb, hml, hown, hts⟩ [] (fun sz => mX1_smallestCore l dC dI aM cM P y n f  hp7 hn  sz) (lw_V q254 q255 q256 q20 q257) hdX1_smallestCore ⟨Nat.le_of_ble_eq_true rfl, Nat.le_of_ble_eq_true rfl⟩ ⟨rfl, rfl⟩ hKM [6, 7, 8, 9, 10] [0, 1, 2, 3, 4, 5] rfl rfl rfl rfl (by decide) rfl (q0 := 0) (ci := 1) rfl rfl rfl hl.1 rfl (Nat.le_of_ble_eq_true rfl) dL_law_322 ⟨Nat.le_of_ble_eq_true rfl, Nat.le_of_ble_eq_true rfl⟩ hA hP hD hS (fun u2 H locs hu2 hP hD hS => ?_)
  have hP : va_P (dC, dI) vwCl (wX aX cX P y n (bI true) u1.1 u1.2.1 u1.2.2 ++ wM aM cM P y n u2) H := hP
  have hD : va_D (fun q : Nat => s.heap.size ≤ q) (wX aX cX P y n (bI true) u1.1 u1.2.1 u1.2.2 ++ wM aM cM P y n u2) := hD
  refine lv_icmp_eq (tgt := 376) hx hb dL_law_325 (by decide) (fun _ => ?_) (fun z => absurd rfl z)
  exact cont P y n true u1.1 u1.2.1 u1.2.2 u2 hp7 hy hn (fun _ => hu1) H locs hP hD hS ls hl
set_option maxHeartbeats 4000000 in
theorem law_mostTogether {p : Program} {e : Env} {s : State} {m : MethodId} {below : List Frame} {meth : Method} {c : Code} (l : Launch) {b L : Nat} {xs : Nat → Int32} (hL : L ≤ 192) (C0 : lw_At p s m meth c b L xs) (dC : Nat → ClassId) (dI : Nat → Nat → Nat) (aX aM : Nat → Nat) (cX cM : Nat → ClassId) (hKX : va_K (dC, dI) vwCl (tX cX) s) (hKM : va_K (dC, dI) vwCl (tM cM) s) {i : Nat} (hi3 : i + 3 ≤ L) (P : Nat) (y n : Nat → Nat) (kb : Bool) (fd fc fr : Nat → Int64) (f : Nat → Int32) (hp7 : P < 128) (hy : ∀ k, y k < 16) (hn : ∀ k, n k < 16) (hgood : kb = true → Good y n P fc fr) (cont : ∀ (P : Nat) (y n : Nat → Nat) (kb : Bool) (fd fc fr : Nat → Int64) (f : Nat → Int32), P < 128 → (∀ k, y k < 16) → (∀ k, n k < 16) → (kb = true → Good y n P fc fr) → ∀ (H : Heap) (locs : List Loc), va_P (dC, dI) vwCl ((wX aX cX P y n (bI kb) fd fc fr) ++ (wM aM cM P y n f)) H → va_D (fun q : Nat => s.heap.size ≤ q) ((wX aX cX P y n (bI kb) fd fc fr) ++ (wM aM cM P y n f)) → va_S (fun q : Nat => s.heap.size ≤ q) s.heap H locs → ∀ ls : Array Slot, lv_has ls 4 [(0, .ref b), (1, .ref (aX 0)), (2, .ref (aM 0)), (3, .int (nI i))] → W p l e room_1 s m #[Value.ref b] below meth c H locs 11 182 (lw_Z below #[Value.ref b] s) (F0 m 376 ls [])) (H : Heap) (locs : List Loc) (hP : va_P (dC, dI) vwCl ((wX aX cX P y n (bI kb) fd fc fr) ++ (wM aM cM P y n f)) H) (hD : va_D (fun q : Nat => s.heap.size ≤ q) ((wX aX cX P y n (bI kb) fd fc fr) ++ (wM aM cM P y n f))) (hS : va_S (fun q : Nat => s.heap.size ≤ q) s.heap H locs) (ls : Array Slot) (hl : lv_has ls 4 [(0, .ref b), (1, .ref (aX 0)), (2, .ref (aM 0)), (3, .int (nI i))]) : W p l e room_1 s m #[Value.ref b] below meth c H locs 11 182 (lw_Z below #[Value.ref b] s) (F0 m 330 ls []) := by
  obtain ⟨hx, hb, hr, hml, hown, hts0, hX, hbl, hlocks, hgv⟩ := id C0
  have hown : s.vm.findClass "CoreFinderLaw" = some m.cls := hown
  have hts : ∀ w ∈ lw_all, w.before #[Value.ref b] s = true := fun w h => hts0 w (lw_all_tbl h)
  have hA : ∀ q : Nat, s.heap.size ≤ q → (fun q : Nat => s.heap.size ≤ q) q := fun _ h => h
  have hbA : ¬ (fun q : Nat => s.heap.size ≤ q) b := Nat.not_le.mpr hbl
  refine lv_aload_n hx hb dL_law_330 rfl (lv_at hl 1 rfl) ?_
  refine mi_callV (ws0 := (wX aX cX P y n (bI kb) fd fc fr ++ wM aM cM P y n f)) (wr := (wM aM cM P y n f)) ⟨hx, hb, hml, hown, hts⟩ [] (fun sz => mX0_mostTogether l dC dI aX cX P y n kb fd fc fr  hp7 hy hn hgood  sz) (lw_V q154 q155 q156 q19 q157) hdX0_mostTogether ⟨Nat.le_of_ble_eq_true rfl, Nat.le_of_ble_eq_true rfl⟩ ⟨rfl, rfl⟩ hKX [0, 1, 2, 3, 4, 5] [6, 7, 8, 9, 10] rfl rfl rfl rfl (by decide) rfl (q0 := 0) (ci := 0) rfl rfl rfl hl.1 rfl (Nat.le_of_ble_eq_true rfl) dL_law_331 ⟨Nat.le_of_ble_eq_true rfl, Nat.le_of_ble_eq_true rfl⟩ hA hP hD hS (fun u1 H locs hu1 hP hD hS => ?_)
  have hP : va_P (dC, dI) vwCl (wX aX cX P y n (bI true) u1.1 u1.2.1 u1.2.2 ++ wM aM cM P y n f) H := hP.sub [5, 6, 7, 8, 9, 10, 0, 1, 2, 3, 4] rfl
  have hD : va_D (fun q : Nat => s.heap.size ≤ q) (wX aX cX P y n (bI true) u1.1 u1.2.1 u1.2.2 ++ wM aM cM P y n f) := hD.sub [5, 6, 7, 8, 9, 10, 0, 1, 2, 3, 4] (by decide) rfl
  refine lv_aload_n hx hb dL_law_334 rfl (lv_at hl 2 rfl) ?_
  refine mi_callV (ws0 := (wX aX cX P y n (bI true) u1.1 u1.2.1 u1.2.2 ++ wM aM cM P y n f)) (wr := (wX aX cX P y n (bI true) u1.1 u1.2.1 u1.2.2)) ⟨hx, hb, hml, hown, hts⟩ [] (fun sz => mX1_mostTogether l dC dI aM cM P y n f  hp7 hn  sz) (lw_V q262 q263 q264 q20 q265) hdX1_mostTogether ⟨Nat.le_of_ble_eq_true rfl, Nat.le_of_ble_eq_true rfl⟩ ⟨rfl, rfl⟩ hKM [6, 7, 8, 9, 10] [0, 1, 2, 3, 4, 5] rfl rfl rfl rfl (by decide) rfl (q0 := 0) (ci := 1) rfl rfl rfl hl.1 rfl (Nat.le_of_ble_eq_true rfl) dL_law_335 ⟨Nat.le_of_ble_eq_true rfl, Nat.le_of_ble_eq_true rfl⟩ hA hP hD hS (fun u2 H locs hu2 hP hD hS => ?_)
  have hP : va_P (dC, dI) vwCl (wX aX cX P y n (bI true) u1.1 u1.2.1 u1.2.2 ++ wM aM cM P y n u2) H := hP
  have hD : va_D (fun q : Nat => s.heap.size ≤ q) (wX aX cX P y n (bI true) u1.1 u1.2.1 u1.2.2 ++ wM aM cM P y n u2) := hD
  refine lv_icmp_eq (tgt := 376) hx hb dL_law_338 (by decide) (fun _ => ?_) (fun z => absurd (by rw [mt_eq hp7]) z)
  exact cont P y n true u1.1 u1.2.1 u1.2.2 u2 hp7 hy hn (fun _ => hu1) H locs hP hD hS ls hl
set_option maxHeartbeats 4000000 in
theorem law_follows {p : Program} {e : Env} {s : State} {m : MethodId} {below : List Frame} {meth : Method} {c : Code} (l : Launch) {b L : Nat} {xs : Nat → Int32} (hL : L ≤ 192) (C0 : lw_At p s m meth c b L xs) (dC : Nat → ClassId) (dI : Nat → Nat → Nat) (aX aM : Nat → Nat) (cX cM : Nat → ClassId) (hKX : va_K (dC, dI) vwCl (tX cX) s) (hKM : va_K (dC, dI) vwCl (tM cM) s) {i : Nat} (hi3 : i + 3 ≤ L) (P : Nat) (y n : Nat → Nat) (kb : Bool) (fd fc fr : Nat → Int64) (f : Nat → Int32) (hp7 : P < 128) (hy : ∀ k, y k < 16) (hn : ∀ k, n k < 16) (hgood : kb = true → Good y n P fc fr) (cont : ∀ (P : Nat) (y n : Nat → Nat) (kb : Bool) (fd fc fr : Nat → Int64) (f : Nat → Int32), P < 128 → (∀ k, y k < 16) → (∀ k, n k < 16) → (kb = true → Good y n P fc fr) → ∀ (H : Heap) (locs : List Loc), va_P (dC, dI) vwCl ((wX aX cX P y n (bI kb) fd fc fr) ++ (wM aM cM P y n f)) H → va_D (fun q : Nat => s.heap.size ≤ q) ((wX aX cX P y n (bI kb) fd fc fr) ++ (wM aM cM P y n f)) → va_S (fun q : Nat => s.heap.size ≤ q) s.heap H locs → ∀ ls : Array Slot, lv_has ls 4 [(0, .ref b), (1, .ref (aX 0)), (2, .ref (aM 0)), (3, .int (nI i))] → W p l e room_1 s m #[Value.ref b] below meth c H locs 11 182 (lw_Z below #[Value.ref b] s) (F0 m 376 ls [])) (H : Heap) (locs : List Loc) (hP : va_P (dC, dI) vwCl ((wX aX cX P y n (bI kb) fd fc fr) ++ (wM aM cM P y n f)) H) (hD : va_D (fun q : Nat => s.heap.size ≤ q) ((wX aX cX P y n (bI kb) fd fc fr) ++ (wM aM cM P y n f))) (hS : va_S (fun q : Nat => s.heap.size ≤ q) s.heap H locs) (ls : Array Slot) (hl : lv_has ls 4 [(0, .ref b), (1, .ref (aX 0)), (2, .ref (aM 0)), (3, .int (nI i))]) : W p l e room_1 s m #[Value.ref b] below meth c H locs 11 182 (lw_Z below #[Value.ref b] s) (F0 m 343 ls []) := by
  obtain ⟨hx, hb, hr, hml, hown, hts0, hX, hbl, hlocks, hgv⟩ := id C0
  have hown : s.vm.findClass "CoreFinderLaw" = some m.cls := hown
  have hts : ∀ w ∈ lw_all, w.before #[Value.ref b] s = true := fun w h => hts0 w (lw_all_tbl h)
  have hA : ∀ q : Nat, s.heap.size ≤ q → (fun q : Nat => s.heap.size ≤ q) q := fun _ h => h
  have hbA : ¬ (fun q : Nat => s.heap.size ≤ q) b := Nat.not_le.mpr hbl
  obtain ⟨a1, ha1, ea1⟩ := nn_of (xs (i + 1))
  obtain ⟨a2, ha2, ea2⟩ := nn_of (xs (i + 2))
  refine lv_aload_n hx hb dL_law_343 rfl (lv_at hl 1 rfl) ?_
  refine lv_aload_n hx hb dL_law_344 rfl (lv_at hl 0 rfl) ?_
  refine lv_iload_n hx hb dL_law_345 rfl (lv_at hl 3 rfl) ?_
  refine lv_iconst (v := (nI 1)) hx hb dL_law_346 (by decide) ?_
  refine nv_add hx hb dL_law_347 ?_
  refine nv_sld hx hb hX hbl hbA hS (by omega) (by omega) ea1 dL_law_348 ?_
  refine lv_aload_n hx hb dL_law_349 rfl (lv_at hl 0 rfl) ?_
  refine lv_iload_n hx hb dL_law_350 rfl (lv_at hl 3 rfl) ?_
  refine lv_iconst (v := (nI 2)) hx hb dL_law_351 (by decide) ?_
  refine nv_add hx hb dL_law_352 ?_
  refine nv_sld hx hb hX hbl hbA hS (by omega) (by omega) ea2 dL_law_353 ?_
  refine pi_callV (ws0 := (wX aX cX P y n (bI kb) fd fc fr ++ wM aM cM P y n f)) ⟨hx, hb, hml, hown, hts⟩ [.int (nI a1), .int (nI a2)] (mX0_follows l dC dI aX cX P y n (bI kb) fd fc fr a1 a2 hy hn ha1 ha2) (lw_V q158 q159 q160 q19 q161) hdX0_follows ⟨Nat.le_of_ble_eq_true rfl, Nat.le_of_ble_eq_true rfl⟩ ⟨rfl, rfl⟩ hKX (hP.sub [0, 1, 2, 3, 4, 5] rfl) (q0 := 0) (ci := 0) rfl rfl rfl hl.1 rfl (Nat.le_of_ble_eq_true rfl) dL_law_354 ⟨Nat.le_of_ble_eq_true rfl, Nat.le_of_ble_eq_true rfl⟩ hP hS (fun H locs hP hS => ?_)
  refine lv_aload_n hx hb dL_law_357 rfl (lv_at hl 2 rfl) ?_
  refine lv_aload_n hx hb dL_law_358 rfl (lv_at hl 0 rfl) ?_
  refine lv_iload_n hx hb dL_law_359 rfl (lv_at hl 3 rfl) ?_
  refine lv_iconst (v := (nI 1)) hx hb dL_law_360 (by decide) ?_
  refine nv_add hx hb dL_law_361 ?_
  refine nv_sld hx hb hX hbl hbA hS (by omega) (by omega) ea1 dL_law_362 ?_
  refine lv_aload_n hx hb dL_law_363 rfl (lv_at hl 0 rfl) ?_
  refine lv_iload_n hx hb dL_law_364 rfl (lv_at hl 3 rfl) ?_
  refine lv_iconst (v := (nI 2)) hx hb dL_law_365 (by decide) ?_
  refine nv_add hx hb dL_law_366 ?_
  refine nv_sld hx hb hX hbl hbA hS (by omega) (by omega) ea2 dL_law_367 ?_
  refine pi_callV (ws0 := (wX aX cX P y n (bI kb) fd fc fr ++ wM aM cM P y n f)) ⟨hx, hb, hml, hown, hts⟩ [.int (nI a1), .int (nI a2)] (mX1_follows l dC dI aM cM P y n f a1 a2 hn ha2) (lw_V q266 q267 q268 q20 q269) hdX1_follows ⟨Nat.le_of_ble_eq_true rfl, Nat.le_of_ble_eq_true rfl⟩ ⟨rfl, rfl⟩ hKM (hP.sub [6, 7, 8, 9, 10] rfl) (q0 := 0) (ci := 1) rfl rfl rfl hl.1 rfl (Nat.le_of_ble_eq_true rfl) dL_law_368 ⟨Nat.le_of_ble_eq_true rfl, Nat.le_of_ble_eq_true rfl⟩ hP hS (fun H locs hP hS => ?_)
  refine lv_icmp_eq (tgt := 376) hx hb dL_law_371 (by decide) (fun _ => ?_) (fun z => absurd (by rw [flw_eq hp7]) z)
  exact cont P y n kb fd fc fr f hp7 hy hn hgood H locs hP hD hS ls hl
set_option maxHeartbeats 4000000 in
theorem law_loop {p : Program} {e : Env} {s : State} {m : MethodId} {below : List Frame} {meth : Method} {c : Code} (l : Launch) {b L : Nat} {xs : Nat → Int32} (hL : L ≤ 192) (C0 : lw_At p s m meth c b L xs) (dC : Nat → ClassId) (dI : Nat → Nat → Nat) (aX aM : Nat → Nat) (cX cM : Nat → ClassId) (hKX : va_K (dC, dI) vwCl (tX cX) s) (hKM : va_K (dC, dI) vwCl (tM cM) s) : ∀ (k_ i : Nat), i ≤ L → L - i < k_ → ∀ (P : Nat) (y n : Nat → Nat) (kb : Bool) (fd fc fr : Nat → Int64) (f : Nat → Int32), P < 128 → (∀ k, y k < 16) → (∀ k, n k < 16) → (kb = true → Good y n P fc fr) → ∀ (H : Heap) (locs : List Loc), va_P (dC, dI) vwCl ((wX aX cX P y n (bI kb) fd fc fr) ++ (wM aM cM P y n f)) H → va_D (fun q : Nat => s.heap.size ≤ q) ((wX aX cX P y n (bI kb) fd fc fr) ++ (wM aM cM P y n f)) → va_S (fun q : Nat => s.heap.size ≤ q) s.heap H locs → ∀ ls : Array Slot, lv_has ls 4 [(0, .ref b), (1, .ref (aX 0)), (2, .ref (aM 0)), (3, .int (nI i))] → W p l e room_1 s m #[Value.ref b] below meth c H locs 11 182 (lw_Z below #[Value.ref b] s) (F0 m 18 ls []) := by
  obtain ⟨hx, hb, hr, hml, hown, hts0, hX, hbl, hlocks, hgv⟩ := id C0
  have hown : s.vm.findClass "CoreFinderLaw" = some m.cls := hown
  have hts : ∀ w ∈ lw_all, w.before #[Value.ref b] s = true := fun w h => hts0 w (lw_all_tbl h)
  have hA : ∀ q : Nat, s.heap.size ≤ q → (fun q : Nat => s.heap.size ≤ q) q := fun _ h => h
  have hbA : ¬ (fun q : Nat => s.heap.size ≤ q) b := Nat.not_le.mpr hbl
  intro k_
  induction k_ with
  | zero => intro i hi hlt; exact absurd hlt (Nat.not_lt_zero _)
  | succ k_ ih =>
    intro i hi hlt P y n kb fd fc fr f hp7 hy hn hgood H locs hP hD hS ls hl
    refine lv_iload_n hx hb dL_law_18 rfl (lv_at hl 3 rfl) ?_
    refine lv_aload_n hx hb dL_law_19 rfl (lv_at hl 0 rfl) ?_
    refine va_slen hx hb hX hbl hbA hS dL_law_20 ?_
    refine lv_iconst (v := (nI 3)) hx hb dL_law_21 (by decide) ?_
    refine lv_isub hx hb dL_law_22 ?_
    refine lv_icmp_gt (tgt := 382) hx hb dL_law_23 (by decide) (fun c_23 => ?_) (fun c_23 => ?_)
    · refine lv_iconst (v := 1) hx hb dL_law_382 (by decide) ?_
      refine va_forget hS.2.2 ?_
      refine W.widen (k := 600000) (n := 7290000) (by decide) (by decide) ?_
      exact lw_ret hx hb hr hlocks dL_law_383
    · have hi3 : i + 3 ≤ L := law_cond hL hi c_23
      have cont : ∀ (P : Nat) (y n : Nat → Nat) (kb : Bool) (fd fc fr : Nat → Int64) (f : Nat → Int32), P < 128 → (∀ k, y k < 16) → (∀ k, n k < 16) → (kb = true → Good y n P fc fr) → ∀ (H : Heap) (locs : List Loc), va_P (dC, dI) vwCl ((wX aX cX P y n (bI kb) fd fc fr) ++ (wM aM cM P y n f)) H → va_D (fun q : Nat => s.heap.size ≤ q) ((wX aX cX P y n (bI kb) fd fc fr) ++ (wM aM cM P y n f)) → va_S (fun q : Nat => s.heap.size ≤ q) s.heap H locs → ∀ ls : Array Slot, lv_has ls 4 [(0, .ref b), (1, .ref (aX 0)), (2, .ref (aM 0)), (3, .int (nI i))] → W p l e room_1 s m #[Value.ref b] below meth c H locs 11 182 (lw_Z below #[Value.ref b] s) (F0 m 376 ls []) := by
        intro P y n kb fd fc fr f hp7 hy hn hgood H locs hP hD hS ls hl
        refine lv_iinc (v := nI (i + 3)) (lv' := [(3, .int (nI (i + 3))), (0, .ref b), (1, .ref (aX 0)), (2, .ref (aM 0))]) hx hb dL_law_376 hl (k := 3) rfl (nI_add i 3) (by decide) rfl (fun ls hl => ?_)
        refine lv_goto (tgt := 18) hx hb dL_law_379 (by decide) ?_
        exact ih (i + 3) hi3 (by omega) P y n kb fd fc fr f hp7 hy hn hgood H locs hP hD hS ls (lv_sub hl [1, 2, 3, 0] rfl)
      refine lv_aload_n hx hb dL_law_26 rfl (lv_at hl 0 rfl) ?_
      refine lv_iload_n hx hb dL_law_27 rfl (lv_at hl 3 rfl) ?_
      refine nv_sld hx hb hX hbl hbA hS (by omega) (by omega) rfl dL_law_28 ?_
      refine lv_bipush (v := (nI 15)) hx hb dL_law_29 (by decide) ?_
      refine lv_iand hx hb dL_law_31 ?_
      obtain ⟨j, hj, ej⟩ := pk_andE (xs i) (m := nI 15) 4 (by decide +kernel)
      refine nv_e ej ?_
      match j, hj with
      | 0, _ =>
          refine lv_tableIn (tgt := 104) hx hb dL_law_32 (by decide) (by decide) rfl (by decide) ?_
          exact law_add l hL C0 dC dI aX aM cX cM hKX hKM hi3 P y n kb fd fc fr f hp7 hy hn hgood cont H locs hP hD hS ls hl
      | 1, _ =>
          refine lv_tableIn (tgt := 137) hx hb dL_law_32 (by decide) (by decide) rfl (by decide) ?_
          exact law_remove l hL C0 dC dI aX aM cX cM hKX hKM hi3 P y n kb fd fc fr f hp7 hy hn hgood cont H locs hP hD hS ls hl
      | 2, _ =>
          refine lv_tableIn (tgt := 160) hx hb dL_law_32 (by decide) (by decide) rfl (by decide) ?_
          exact law_clauses l hL C0 dC dI aX aM cX cM hKX hKM hi3 P y n kb fd fc fr f hp7 hy hn hgood cont H locs hP hD hS ls hl
      | 3, _ =>
          refine lv_tableIn (tgt := 173) hx hb dL_law_32 (by decide) (by decide) rfl (by decide) ?_
          exact law_consistent l hL C0 dC dI aX aM cX cM hKX hKM hi3 P y n kb fd fc fr f hp7 hy hn hgood cont H locs hP hD hS ls hl
      | 4, _ =>
          refine lv_tableIn (tgt := 196) hx hb dL_law_32 (by decide) (by decide) rfl (by decide) ?_
          exact law_witness l hL C0 dC dI aX aM cX cM hKX hKM hi3 P y n kb fd fc fr f hp7 hy hn hgood cont H locs hP hD hS ls hl
      | 5, _ =>
          refine lv_tableIn (tgt := 219) hx hb dL_law_32 (by decide) (by decide) rfl (by decide) ?_
          exact law_cores l hL C0 dC dI aX aM cX cM hKX hKM hi3 P y n kb fd fc fr f hp7 hy hn hgood cont H locs hP hD hS ls hl
      | 6, _ =>
          refine lv_tableIn (tgt := 232) hx hb dL_law_32 (by decide) (by decide) rfl (by decide) ?_
          exact law_core l hL C0 dC dI aX aM cX cM hKX hKM hi3 P y n kb fd fc fr f hp7 hy hn hgood cont H locs hP hD hS ls hl
      | 7, _ =>
          refine lv_tableIn (tgt := 255) hx hb dL_law_32 (by decide) (by decide) rfl (by decide) ?_
          exact law_repairs l hL C0 dC dI aX aM cX cM hKX hKM hi3 P y n kb fd fc fr f hp7 hy hn hgood cont H locs hP hD hS ls hl
      | 8, _ =>
          refine lv_tableIn (tgt := 268) hx hb dL_law_32 (by decide) (by decide) rfl (by decide) ?_
          exact law_repair l hL C0 dC dI aX aM cX cM hKX hKM hi3 P y n kb fd fc fr f hp7 hy hn hgood cont H locs hP hD hS ls hl
      | 9, _ =>
          refine lv_tableIn (tgt := 291) hx hb dL_law_32 (by decide) (by decide) rfl (by decide) ?_
          exact law_guilty l hL C0 dC dI aX aM cX cM hKX hKM hi3 P y n kb fd fc fr f hp7 hy hn hgood cont H locs hP hD hS ls hl
      | 10, _ =>
          refine lv_tableIn (tgt := 304) hx hb dL_law_32 (by decide) (by decide) rfl (by decide) ?_
          exact law_central l hL C0 dC dI aX aM cX cM hKX hKM hi3 P y n kb fd fc fr f hp7 hy hn hgood cont H locs hP hD hS ls hl
      | 11, _ =>
          refine lv_tableIn (tgt := 317) hx hb dL_law_32 (by decide) (by decide) rfl (by decide) ?_
          exact law_smallestCore l hL C0 dC dI aX aM cX cM hKX hKM hi3 P y n kb fd fc fr f hp7 hy hn hgood cont H locs hP hD hS ls hl
      | 12, _ =>
          refine lv_tableIn (tgt := 330) hx hb dL_law_32 (by decide) (by decide) rfl (by decide) ?_
          exact law_mostTogether l hL C0 dC dI aX aM cX cM hKX hKM hi3 P y n kb fd fc fr f hp7 hy hn hgood cont H locs hP hD hS ls hl
      | 13, _ =>
          refine lv_tableIn (tgt := 343) hx hb dL_law_32 (by decide) (by decide) rfl (by decide) ?_
          exact law_follows l hL C0 dC dI aX aM cX cM hKX hKM hi3 P y n kb fd fc fr f hp7 hy hn hgood cont H locs hP hD hS ls hl
      | 14, _ =>
          refine lv_tableOut (tgt := 376) hx hb dL_law_32 (by decide) (by decide) ?_
          exact cont P y n kb fd fc fr f hp7 hy hn hgood H locs hP hD hS ls hl
      | 15, _ =>
          refine lv_tableOut (tgt := 376) hx hb dL_law_32 (by decide) (by decide) ?_
          exact cont P y n kb fd fc fr f hp7 hy hn hgood H locs hP hD hS ls hl
      | j + 16, h => exact absurd h (by omega)
end
section
set_option maxRecDepth 100000
set_option maxHeartbeats 4000000 in
/-- YOUR PART: from the entry, for every script of at most 192 ints, the law comes to its end with true -/
theorem whole_start {p : Program} {e : Env} {s : State} {m : MethodId} {below : List Frame} {meth : Method} {c : Code} (l : Launch) {b L : Nat} {xs : Nat → Int32} (hL : L ≤ 192) (C0 : lw_At p s m meth c b L xs) : W p l e room_1 s m #[Value.ref b] below meth c s.heap [] 0 0 (lw_Z below #[Value.ref b] s) (entryFrame m ([Value.ref b] : List Value).toArray 4) := by
  obtain ⟨hx, hb, hr, hml, hown, hts0, hX, hbl, hlocks, hgv⟩ := id C0
  have hown : s.vm.findClass "CoreFinderLaw" = some m.cls := hown
  have hts : ∀ w ∈ lw_all, w.before #[Value.ref b] s = true := fun w h => hts0 w (lw_all_tbl h)
  have hA : ∀ q : Nat, s.heap.size ≤ q → (fun q : Nat => s.heap.size ≤ q) q := fun _ h => h
  have hbA : ¬ (fun q : Nat => s.heap.size ≤ q) b := Nat.not_le.mpr hbl
  obtain ⟨k0, iS0, hKn0⟩ := u_known (C := RX0) (T := TX0) (N := 7) (n := 7) hts in_X0 (hts _ q22)
  obtain ⟨k1, iS1, hKn1⟩ := u_known (C := RX1) (T := TX1) (N := 4) (n := 4) hts in_X1 (hts _ q163)
  obtain ⟨dC, dI, hKc⟩ : ∃ (dC : Nat → ClassId) (dI : Nat → Nat → Nat), ∀ (k : Nat) (q : vw_C), vwCl[k]? = some q → u_Kn s q.1 q.2.1 q.2.2 (dC k) (dI k) := by
    refine ⟨fun k => if k = 0 then k0 else k1, fun k => if k = 0 then iS0 else iS1, ?_⟩
    intro k q hq
    match k, hq with
    | 0, hq => cases hq; exact hKn0
    | 1, hq => cases hq; exact hKn1
    | k + 2, hq => simp [vwCl] at hq
  have hS : va_S (fun q : Nat => s.heap.size ≤ q) s.heap s.heap [] := va_S.rf
  have hK : va_K (dC, dI) vwCl [] s := ⟨hKc, fun k q h => by simp at h⟩
  have hP : va_P (dC, dI) vwCl [] s.heap := fun k q h => by simp at h
  have hD : va_D (fun q : Nat => s.heap.size ≤ q) [] := ⟨fun i j p q h => by simp at h, fun k q h => by simp at h⟩
  have hl := lv_entry ([.ref b]) (n := 4) (Nat.le_of_ble_eq_true rfl)
  rw [lg_entry_eq]
  generalize (lg_sl ([.ref b]) ++ List.replicate (4 - (lg_sl ([.ref b])).length) Slot.unset).toArray = ls at hl ⊢
  have hl : lv_has ls 4 [(0, .ref b)] := hl
  refine va_new (ci := 0) (fs := [.int 0, .null, .null, .int 0, .null, .null, .null]) (C := RX0) (T := TX0) (N := 7) hx hb hts in_X0 tyX0 tyX0_ok hown (hts _ q21) (hts _ q22) (hts _ q19) hK hP hD hS hA rfl (fun j hj => by rcases (show j = 0 ∨ j = 1 ∨ j = 2 ∨ j = 3 ∨ j = 4 ∨ j = 5 ∨ j = 6 by omega) with rfl | rfl | rfl | rfl | rfl | rfl | rfl <;> rfl) (Nat.le_of_ble_eq_true rfl) (Nat.le_of_ble_eq_true rfl) dL_law_0 (fun g0 H hP hD hS => ?_)
  have hP : va_P (dC, dI) vwCl [(g0, .inr (0, [.int 0, .null, .null, .int 0, .null, .null, .null]))] H := hP
  have hD : va_D (fun q : Nat => s.heap.size ≤ q) [(g0, .inr (0, [.int 0, .null, .null, .int 0, .null, .null, .null]))] := hD
  refine W.widen (k := 1) (n := 7) (Nat.le_refl _) (Nat.le_refl _) ?_
  refine lv_dup hx hb dL_law_3 rfl ?_
  have hPc := hP.sub (ws' := [(g0, .inr (0, [.int 0, .null, .null, .int 0, .null, .null, .null]))]) [0] rfl
  have hDc := hD.sub (ws' := [(g0, .inr (0, [.int 0, .null, .null, .int 0, .null, .null, .null]))]) [0] (by decide) rfl
  have hKc := hK.sub (tys' := []) [] rfl
  have hFc := va_free (wc := [(g0, .inr (0, [.int 0, .null, .null, .int 0, .null, .null, .null]))]) hD hS hA [0] rfl
  refine va_callv (va_runI (As := []) (rest := [.ref g0]) ⟨hx, hb, hml, hown, hts⟩ (mX0_init l dC dI g0 H.size) (cwI 0 hts (lw_meth q25) rfl rfl rfl (hts _ q19) (hts _ q23) (hts _ q24) rfl (by decide +kernel) ⟨Nat.le_of_ble_eq_true rfl, Nat.le_of_ble_eq_true rfl⟩) ⟨fun a U g mk q => by obtain ⟨q0, q1, qP, qK, qD⟩ := q; exact ⟨q0, q1, qP, va_K.moved (u := U) (U := U.calling g mk a) (Vm.Alike.refl U.vm) qK, qD⟩, fun U hU hW => ⟨rfl, by rw [hU], by rw [hU]; exact hPc, va_K.moved hW.alike hKc, hDc.weaken (fun _ _ _ _ => trivial)⟩⟩ rfl rfl hl.1 rfl (lv_room (Nat.le_of_ble_eq_true rfl)) dL_law_4 ⟨Nat.le_of_ble_eq_true rfl, Nat.le_of_ble_eq_true rfl⟩) hS (fun q _ h => hFc q h) hFc (fun u t H1 locs ht hvm hw hB hz1 hk1 hS => ?_)
  obtain ⟨aX, cX⟩ := u
  have hw : aX 0 = g0 := hw
  subst hw
  obtain ⟨hP1, hK1, hD1⟩ := hB
  rw [ht] at hP1
  have hKX : va_K (dC, dI) vwCl (tX cX) s := va_K.moved hvm.symm hK1
  obtain ⟨hP, hD⟩ := va_join (wr := []) (w1 := (wX aX cX 0 (fun _ => 0) (fun _ => 0) (bI false) (fun _ => 0) (fun _ => 0) (fun _ => 0))) hP hD [0] [] rfl rfl (by decide) (by decide) hk1 hFc hP1 hD1
  generalize H1 = H at hP hS ⊢
  refine W.widen (k := 6) (n := 29) (Nat.le_of_ble_eq_true rfl) (Nat.le_of_ble_eq_true rfl) ?_
  have hP : va_P (dC, dI) vwCl (wX aX cX 0 (fun _ => 0) (fun _ => 0) (bI false) (fun _ => 0) (fun _ => 0) (fun _ => 0)) H := hP
  have hD : va_D (fun q : Nat => s.heap.size ≤ q) (wX aX cX 0 (fun _ => 0) (fun _ => 0) (bI false) (fun _ => 0) (fun _ => 0) (fun _ => 0)) := hD
  refine lv_astore_n (lv' := [(1, .ref (aX 0)), (0, .ref b)]) hx hb dL_law_7 rfl hl (by decide) rfl (fun ls hl => ?_)
  refine va_new (ci := 1) (fs := [.null, .null, .null, .null]) (C := RX1) (T := TX1) (N := 4) hx hb hts in_X1 tyX1 tyX1_ok hown (hts _ q162) (hts _ q163) (hts _ q20) hK hP hD hS hA rfl (fun j hj => by rcases (show j = 0 ∨ j = 1 ∨ j = 2 ∨ j = 3 by omega) with rfl | rfl | rfl | rfl <;> rfl) (Nat.le_of_ble_eq_true rfl) (Nat.le_of_ble_eq_true rfl) dL_law_8 (fun g1 H hP hD hS => ?_)
  have hP : va_P (dC, dI) vwCl ((wX aX cX 0 (fun _ => 0) (fun _ => 0) (bI false) (fun _ => 0) (fun _ => 0) (fun _ => 0)) ++ [(g1, .inr (1, [.null, .null, .null, .null]))]) H := hP
  have hD : va_D (fun q : Nat => s.heap.size ≤ q) ((wX aX cX 0 (fun _ => 0) (fun _ => 0) (bI false) (fun _ => 0) (fun _ => 0) (fun _ => 0)) ++ [(g1, .inr (1, [.null, .null, .null, .null]))]) := hD
  refine W.widen (k := 7) (n := 33) (Nat.le_refl _) (Nat.le_refl _) ?_
  refine lv_dup hx hb dL_law_11 rfl ?_
  have hPc := hP.sub (ws' := [(g1, .inr (1, [.null, .null, .null, .null]))]) [6] rfl
  have hDc := hD.sub (ws' := [(g1, .inr (1, [.null, .null, .null, .null]))]) [6] (by decide) rfl
  have hKc := hK.sub (tys' := []) [] rfl
  have hFc := va_free (wc := [(g1, .inr (1, [.null, .null, .null, .null]))]) hD hS hA [6] rfl
  refine va_callv (va_runI (As := []) (rest := [.ref g1]) ⟨hx, hb, hml, hown, hts⟩ (mX1_init l dC dI g1 H.size) (cwI 0 hts (lw_meth q166) rfl rfl rfl (hts _ q20) (hts _ q164) (hts _ q165) rfl (by decide +kernel) ⟨Nat.le_of_ble_eq_true rfl, Nat.le_of_ble_eq_true rfl⟩) ⟨fun a U g mk q => by obtain ⟨q0, q1, qP, qK, qD⟩ := q; exact ⟨q0, q1, qP, va_K.moved (u := U) (U := U.calling g mk a) (Vm.Alike.refl U.vm) qK, qD⟩, fun U hU hW => ⟨rfl, by rw [hU], by rw [hU]; exact hPc, va_K.moved hW.alike hKc, hDc.weaken (fun _ _ _ _ => trivial)⟩⟩ rfl rfl hl.1 rfl (lv_room (Nat.le_of_ble_eq_true rfl)) dL_law_12 ⟨Nat.le_of_ble_eq_true rfl, Nat.le_of_ble_eq_true rfl⟩) hS (fun q _ h => hFc q h) hFc (fun u t H1 locs ht hvm hw hB hz1 hk1 hS => ?_)
  obtain ⟨aM, cM⟩ := u
  have hw : aM 0 = g1 := hw
  subst hw
  obtain ⟨hP1, hK1, hD1⟩ := hB
  rw [ht] at hP1
  have hKM : va_K (dC, dI) vwCl (tM cM) s := va_K.moved hvm.symm hK1
  obtain ⟨hP, hD⟩ := va_join (wr := (wX aX cX 0 (fun _ => 0) (fun _ => 0) (bI false) (fun _ => 0) (fun _ => 0) (fun _ => 0))) (w1 := (wM aM cM 0 (fun _ => 0) (fun _ => 0) (fun _ => 0))) hP hD [6] [0, 1, 2, 3, 4, 5] rfl rfl (by decide) (by decide) hk1 hFc hP1 hD1
  generalize H1 = H at hP hS ⊢
  refine W.widen (k := 11) (n := 182) (Nat.le_of_ble_eq_true rfl) (Nat.le_of_ble_eq_true rfl) ?_
  refine lv_astore_n (lv' := [(2, .ref (aM 0)), (1, .ref (aX 0)), (0, .ref b)]) hx hb dL_law_15 rfl hl (by decide) rfl (fun ls hl => ?_)
  refine lv_iconst (v := (nI 0)) hx hb dL_law_16 (by decide) ?_
  refine lv_istore_n (lv' := [(3, .int (nI 0)), (2, .ref (aM 0)), (1, .ref (aX 0)), (0, .ref b)]) hx hb dL_law_17 rfl hl (by decide) rfl (fun ls hl => ?_)
  exact law_loop l hL C0 dC dI aX aM cX cM hKX hKM (L + 1) 0 (Nat.zero_le _) (by omega) 0 (fun _ => 0) (fun _ => 0) false (fun _ => 0) (fun _ => 0) (fun _ => 0) (fun _ => 0) (by decide) (fun _ => by decide) (fun _ => by decide) (fun z => by cases z) H _ hP hD hS ls (lv_sub hl [3, 2, 1, 0] rfl)

set_option maxHeartbeats 4000000 in
theorem lw_walk (l : Launch) (b : Addr) (xs : List Int32) : MetFree l x (headSpec (Jvm.Cond.code x code maxLocals ret :: tables_1) room_1) (lw_P b xs) (fun _ _ _ _ _ => True) lw_Q := by
  refine MetFree.of_bodyS (code := code) (maxLocals := maxLocals) (ret := ret) (by decide) ?_ ?_
  · intro args s m h hn
    obtain ⟨meth, c, h1, h2, h3, h4, h5, h6, -, -⟩ := Cond.code_spec hn (atoms_spec (ws := Jvm.Cond.code x code maxLocals ret :: tables_1) h _ List.mem_cons_self)
    exact ⟨meth, c, h1, h2, h3, h4, h5, h6⟩
  · intro p e s m args below meth c s₁ B hml0 hP _
    obtain ⟨rfl, hx, hbd, hgv⟩ := hP
    obtain ⟨scr, harrAt, hlist, hof, hsmall⟩ := hx
    obtain ⟨hcb, hkn, -, -⟩ := State.arrayAt?_spec harrAt
    have hown : s.vm.findClass R_law = some m.cls := findClass_of_methodNamed B.named
    have hts0 : ∀ c ∈ (Jvm.Cond.code x code maxLocals ret :: tables_1), c.before #[Value.ref b] s = true := atoms_spec (ws := Jvm.Cond.code x code maxLocals ret :: tables_1) B.pre
    have hts : ∀ w ∈ lw_tbl, w.before #[Value.ref b] s = true := k2_hts_sels lw_privs (fun w hw => hts0 w (List.mem_cons_of_mem _ hw)) lw_privs_ok
    have hml : c.maxLocals = 4 := B.maxLocals_eq (hts0 _ List.mem_cons_self)
    have X₀ : Stand p l e room_1 s m #[Value.ref b] below meth c s₁ [] 0 0 := Stand.of_body B
    have hh0 : s₁.heap = s.heap := by rw [B.state]; rfl
    have hsz : scr.slots.size = xs.length := by rw [← Array.length_toList, hlist, List.length_map]
    have hval : ∀ j : Nat, j < xs.length → scr.slots[j]? = some (.int (xs.getD j 0)) := fun j hj => by
      rw [← Array.getElem?_toList, hlist]
      simp [hj]
    have hbl : b < s.heap.size := (Array.getElem?_eq_some_iff.mp hcb).1
    have hX : va_X b xs.length (fun j => xs.getD j 0) s s.heap := ⟨scr, hcb, hof, hkn, hsz, hval⟩
    have K : W p l e room_1 s m #[Value.ref b] below meth c s₁.heap [] 0 0 (lw_Z below #[Value.ref b] s) (entryFrame m ([Value.ref b] : List Value).toArray 4) := by
      rw [hh0]
      exact whole_start l hbd ⟨B.exec, B.bytes, B.returns, hml, hown, hts, hX, hbl, B.notSynchronized, hgv⟩
    obtain ⟨t, a1, o, b1, b2, b3⟩ := K s₁ rfl X₀
    exact ⟨t, o, a1, b1, b2, b3⟩
theorem lw_pre_spec {args : Array Value} {s : State} (h : (Jvm.Cond.and given_1 narrow_1).before args s = true) (hr : rest_1_c.before args s = true) : ∃ (b : Addr) (xs : List Int32), lw_P b xs args s := by
  have hs := flat_of_before _ h
  have hq := flat_of_before _ hr
  have hc : (Cond.count 1).before args s = true := hs _ (by decide +kernel)
  have harr : (Cond.arrayOf (.arg 0) .int).before args s = true := hs _ (by decide +kernel)
  have hle : (Cond.le (.length (.arg 0)) (.int 192)).before args s = true := hs _ (by decide +kernel)
  have hlen : (Cond.isInt (.length (.arg 0))).before args s = true := hq _ (by decide +kernel)
  have hall : (Cond.all (.arg 0) (.isInt (.elem (.arg 0) (.index 0)))).before args s = true := hq _ (by decide +kernel)
  obtain ⟨b, xs, hb, hx⟩ := State.ints_of_pre rfl harr hlen hall
  have hsm : xs.length < 2 ^ 31 := hx.choose_spec.2.2.2
  have hev : (Term.length (.arg 0)).eval args s none [] s = some (.int xs.length.toInt32) := hx.length_eval hb
  have hv := Cond.le_ints hev (show (Term.int 192).eval args s none [] s = some (.int 192) from rfl)
  have hd : xs.length.toInt32 ≤ 192 := by
    simpa [Cond.before, Cond.holds, hv] using hle
  have hN : xs.length ≤ 192 := (Int32.ofNat_le_ofNat hsm (by decide)).mp (show Int32.ofNat xs.length ≤ Int32.ofNat 192 from hd)
  exact ⟨b, xs, Cond.one_arg hc (show args[0]? = some (.ref b) from hb), hx, hN, h⟩
theorem lw_comes (l : Launch) : Comes l x (Jvm.Cond.code x code maxLocals ret :: tables_1) room_1 (fun tb e args s => Calls_1 tb e args s ∧ rest_1 tb e args s ∧ Pre_1 tb e args s)
    (fun _ _ args s o t => lw_Q args s o t) := by
  intro p e ha hc hk s m args below hf hfit hheap happ hpre
  obtain ⟨b, xs, hP⟩ := lw_pre_spec hpre.2.2 hpre.2.1
  obtain ⟨k, o, h1, h2, h3, hQ⟩ := lw_walk l b xs p e ha hc hk s m args below hf ((Spec.applies_iff_loose hf).mp happ).1 hP trivial
  exact ⟨k, o, h1, h2, h3, hQ⟩
theorem lw_frame {s t : State} {o : Outcome} {args : Array Value} (h : Framed s o t [] 600000 7290000) :
    Framed s o t (fieldLocs frame_1_writes args s ++ arrayLocs frame_1_arrays args s ++ staticLocs frame_1_statics s) 600000 7290000 := h
theorem lw_limb (L : Cond) (hL : ∀ (args : Array Value) (s t : State), L.after args s (.returned (some (.int 1))) t = true) :
    ArmFor flags0 classFile x code maxLocals ret World_1 tables_1 room_1 Calls_1 rest_1 Pre_1
      (fun tb e a s o t => postC L tb e a s o t ∧ Framed s o t (fieldLocs frame_1_writes a s ++ arrayLocs frame_1_arrays a s ++ staticLocs frame_1_statics s) 600000 7290000) := by
  intro l _ _ _ p e ha hc hk s m args below hf hfit hheap happ hpre
  obtain ⟨k, o, h1, h2, h3, rfl, hF⟩ := lw_comes l p e ha hc hk s m args below hf hfit hheap happ hpre
  exact ⟨k, _, h1, h2, h3, hL args s _, lw_frame hF⟩
theorem i_vc : Claimed_1_1 ∧ Claimed_1_2 := ⟨lw_limb limb_1_1 (fun args s t => by simp [limb_1_1, Cond.after, Cond.holds, Cond.value]), lw_limb limb_1_2 (fun args s t => Cond.after_iff.mpr (by
  first | (rw [show limb_1_2 = Cond.eq .result (.int 1) from rfl, Cond.eq_ints (x := 1) (y := 1) rfl rfl]; simp; done) | (simp [limb_1_2, Cond.value, Term.eval]; done)))⟩
end
